section
/-! part 1: a meter's picture and its plain laws; no program in sight.
 The picture: kind, rate, burst, span, granted, denied, tokens up to now, units that the due time lies ahead, grants that still count (time, cost) -/
abbrev rl_M : Type := Nat × Nat × Nat × Nat × Int32 × Int32 × Nat × Nat × List (Nat × Nat)
def rl_sum : List (Nat × Nat) → Nat
  | [] => 0
  | e :: l => e.2 + rl_sum l
/-- the grants that still count at time now -/
def rl_dw (S now : Nat) : List (Nat × Nat) → List (Nat × Nat)
  | [] => []
  | e :: l => if e.1 + S ≤ now then rl_dw S now l else e :: l
/-- a log in order: times up to now, rising; costs at least 1 -/
def rl_LO (now : Nat) : List (Nat × Nat) → Prop
  | [] => True
  | e :: l => e.1 ≤ now ∧ 1 ≤ e.2 ∧ (∀ f, f ∈ l → e.1 ≤ f.1) ∧ rl_LO now l
/-- the log's wait: o is what is over -/
def rl_lw (S now : Nat) : List (Nat × Nat) → Nat → Nat → Nat
  | [], _, w => w
  | e :: l, o, w => if o = 0 then w else rl_lw S now l (o - e.2) (e.1 + S - now)
theorem rl_dw_c1 {S now : Nat} {e : Nat × Nat} {l : List (Nat × Nat)} (h : e.1 + S ≤ now) : rl_dw S now (e :: l) = rl_dw S now l := if_pos h
theorem rl_dw_c2 {S now : Nat} {e : Nat × Nat} {l : List (Nat × Nat)} (h : ¬ e.1 + S ≤ now) : rl_dw S now (e :: l) = e :: l := if_neg h
theorem rl_lw_c1 {S now o w : Nat} {e : Nat × Nat} {l : List (Nat × Nat)} (h : o = 0) : rl_lw S now (e :: l) o w = w := if_pos h
theorem rl_lw_c2 {S now o w : Nat} {e : Nat × Nat} {l : List (Nat × Nat)} (h : ¬ o = 0) : rl_lw S now (e :: l) o w = rl_lw S now l (o - e.2) (e.1 + S - now) := if_neg h
theorem rl_sum_c (e : Nat × Nat) (l : List (Nat × Nat)) : rl_sum (e :: l) = e.2 + rl_sum l := rfl
theorem rl_lw_0 (S now : Nat) (l : List (Nat × Nat)) (w : Nat) : rl_lw S now l 0 w = w := by
  cases l with
  | nil => rfl
  | cons e l => exact rl_lw_c1 rfl
theorem rl_dw_dw {S now now' : Nat} (h : now ≤ now') (l : List (Nat × Nat)) : rl_dw S now' (rl_dw S now l) = rl_dw S now' l := by
  induction l with
  | nil => rfl
  | cons e l ih =>
    by_cases h1 : e.1 + S ≤ now
    · rw [rl_dw_c1 h1, ih, rl_dw_c1 (by omega)]
    · rw [rl_dw_c2 h1]
theorem rl_dw_id {S now : Nat} {l : List (Nat × Nat)} (h : ∀ e, e ∈ l → now < e.1 + S) : rl_dw S now l = l := by
  cases l with
  | nil => rfl
  | cons e l => exact rl_dw_c2 (by have := h e (by simp); omega)
theorem rl_dw_live {S now t : Nat} (l : List (Nat × Nat)) (h : rl_LO t l) : ∀ e, e ∈ rl_dw S now l → now < e.1 + S := by
  induction l with
  | nil => intro e he; exact absurd he (by simp [rl_dw])
  | cons e l ih =>
    by_cases h1 : e.1 + S ≤ now
    · rw [rl_dw_c1 h1]; exact ih h.2.2.2
    · rw [rl_dw_c2 h1]
      intro f hf
      rcases List.mem_cons.mp hf with rfl | hf
      · omega
      · have := h.2.2.1 f hf
        omega
theorem rl_dw_LO {S now t : Nat} (l : List (Nat × Nat)) (h : rl_LO t l) : rl_LO t (rl_dw S now l) := by
  induction l with
  | nil => trivial
  | cons e l ih =>
    by_cases h1 : e.1 + S ≤ now
    · rw [rl_dw_c1 h1]; exact ih h.2.2.2
    · rw [rl_dw_c2 h1]; exact h
theorem rl_LO_mono {t t' : Nat} (ht : t ≤ t') (l : List (Nat × Nat)) (h : rl_LO t l) : rl_LO t' l := by
  induction l with
  | nil => trivial
  | cons e l ih => exact ⟨Nat.le_trans h.1 ht, h.2.1, h.2.2.1, ih h.2.2.2⟩
theorem rl_dw_sum {S now : Nat} (l : List (Nat × Nat)) : rl_sum (rl_dw S now l) ≤ rl_sum l := by
  induction l with
  | nil => exact Nat.le_refl _
  | cons e l ih =>
    by_cases h1 : e.1 + S ≤ now
    · rw [rl_dw_c1 h1, rl_sum_c]; omega
    · rw [rl_dw_c2 h1]; exact Nat.le_refl _
theorem rl_LO_len {t : Nat} (l : List (Nat × Nat)) (h : rl_LO t l) : l.length ≤ rl_sum l := by
  induction l with
  | nil => exact Nat.le_refl _
  | cons e l ih =>
    have h1 := ih h.2.2.2
    have h2 := h.2.1
    rw [rl_sum_c, List.length_cons]
    omega
theorem rl_LO_le {t : Nat} (l : List (Nat × Nat)) (h : rl_LO t l) : ∀ e, e ∈ l → e.1 ≤ t := by
  induction l with
  | nil => intro e he; exact absurd he (by simp)
  | cons e l ih =>
    intro f hf
    rcases List.mem_cons.mp hf with rfl | hf
    · exact h.1
    · exact ih h.2.2.2 f hf
theorem rl_LO_app {t c : Nat} (hc : 1 ≤ c) (l : List (Nat × Nat)) (h : rl_LO t l) : rl_LO t (l ++ [(t, c)]) := by
  induction l with
  | nil => exact ⟨Nat.le_refl _, hc, fun f hf => absurd hf (by simp), trivial⟩
  | cons e l ih =>
    refine ⟨h.1, h.2.1, fun f hf => ?_, ih h.2.2.2⟩
    rcases List.mem_append.mp hf with hf | hf
    · exact h.2.2.1 f hf
    · rw [List.mem_singleton.mp hf]; exact h.1
theorem rl_sum_app (t c : Nat) (l : List (Nat × Nat)) : rl_sum (l ++ [(t, c)]) = rl_sum l + c := by
  induction l with
  | nil => exact Nat.add_comm c 0
  | cons e l ih => rw [List.cons_append, rl_sum_c, rl_sum_c, ih, Nat.add_assoc]
/-! the log's wait -/
theorem rl_lw_ge {S now v : Nat} (l : List (Nat × Nat)) : ∀ (o w : Nat), (∀ f, f ∈ l → v ≤ f.1 + S - now) → v ≤ w → v ≤ rl_lw S now l o w := by
  induction l with
  | nil => intro o w _ h; exact h
  | cons e l ih =>
    intro o w hf h
    by_cases h0 : o = 0
    · rw [rl_lw_c1 h0]; exact h
    · rw [rl_lw_c2 h0]
      exact ih _ _ (fun f hm => hf f (List.mem_cons_of_mem _ hm)) (hf e (by simp))
theorem rl_lw_le {S now v : Nat} (l : List (Nat × Nat)) : ∀ (o w : Nat), (∀ f, f ∈ l → f.1 + S - now ≤ v) → w ≤ v → rl_lw S now l o w ≤ v := by
  induction l with
  | nil => intro o w _ h; exact h
  | cons e l ih =>
    intro o w hf h
    by_cases h0 : o = 0
    · rw [rl_lw_c1 h0]; exact h
    · rw [rl_lw_c2 h0]
      exact ih _ _ (fun f hm => hf f (List.mem_cons_of_mem _ hm)) (hf e (by simp))
theorem rl_lw_w {S now o : Nat} (l : List (Nat × Nat)) (h0 : 0 < o) (h1 : o ≤ rl_sum l) (w w' : Nat) : rl_lw S now l o w = rl_lw S now l o w' := by
  cases l with
  | nil => exact absurd h1 (by show ¬ o ≤ 0; omega)
  | cons e l => rw [rl_lw_c2 (by omega), rl_lw_c2 (by omega)]
theorem rl_lw_i {S now i : Nat} (l : List (Nat × Nat)) : ∀ (o w : Nat), rl_lw S (now + i) l o (w - i) = rl_lw S now l o w - i := by
  induction l with
  | nil => intro o w; rfl
  | cons e l ih =>
    intro o w
    by_cases h0 : o = 0
    · rw [rl_lw_c1 h0, rl_lw_c1 h0]
    · rw [rl_lw_c2 h0, rl_lw_c2 h0, ← ih, Nat.sub_sub]
theorem rl_lw_pos {S now o : Nat} (l : List (Nat × Nat)) (hl : ∀ f, f ∈ l → now < f.1 + S) (h0 : 0 < o) (h1 : o ≤ rl_sum l) : 0 < rl_lw S now l o 0 := by
  cases l with
  | nil => exact absurd h1 (by show ¬ o ≤ 0; omega)
  | cons e l =>
    rw [rl_lw_c2 (by omega)]
    exact rl_lw_ge (v := 1) l _ _ (fun f hf => by have := hl f (List.mem_cons_of_mem _ hf); omega) (by have := hl e (by simp); omega)
theorem rl_lw_2 {S now i : Nat} (l : List (Nat × Nat)) : ∀ o : Nat, 0 < o → o ≤ rl_sum l → i < rl_lw S now l o 0 →
    rl_sum l < o + rl_sum (rl_dw S (now + i) l) ∧ rl_lw S (now + i) (rl_dw S (now + i) l) (o + rl_sum (rl_dw S (now + i) l) - rl_sum l) 0 = rl_lw S now l o 0 - i := by
  induction l with
  | nil => intro o h0 h1; exact absurd h1 (by show ¬ o ≤ 0; omega)
  | cons e l ih =>
    intro o h0 h1 hi
    by_cases h2 : e.1 + S ≤ now + i
    · rw [rl_lw_c2 (by omega)] at hi
      rw [rl_dw_c1 h2, rl_sum_c, rl_lw_c2 (by omega)]
      rw [rl_sum_c] at h1
      by_cases h3 : o ≤ e.2
      · rw [show o - e.2 = 0 by omega, rl_lw_0] at hi
        omega
      · have hw := rl_lw_w (S := S) (now := now) l (show 0 < o - e.2 by omega) (by omega) (e.1 + S - now) 0
        rw [hw] at hi
        have h4 := ih (o - e.2) (by omega) (by omega) hi
        have h5 := rl_dw_sum (S := S) (now := now + i) l
        rw [hw]
        refine ⟨by omega, ?_⟩
        rw [← h4.2]
        congr 1
        omega
    · rw [rl_dw_c2 h2]
      refine ⟨by omega, ?_⟩
      rw [Nat.add_sub_cancel]
      have h6 := rl_lw_i (S := S) (now := now) (i := i) (e :: l) o 0
      rw [Nat.zero_sub] at h6
      exact h6
theorem rl_lw_3 {S now : Nat} (l : List (Nat × Nat)) : ∀ o w : Nat, (∃ t, rl_LO t l) → (∀ f, f ∈ l → now < f.1 + S) → 0 < o → o ≤ rl_sum l → rl_lw S now l o 0 ≤ w →
    o + rl_sum (rl_dw S (now + w) l) ≤ rl_sum l := by
  induction l with
  | nil => intro o w _ _ h0 h1; exact absurd h1 (by show ¬ o ≤ 0; omega)
  | cons e l ih =>
    intro o w ⟨t, hl⟩ hv h0 h1 hw
    have h5 := rl_dw_sum (S := S) (now := now + w) l
    have he := hv e (by simp)
    rw [rl_lw_c2 (by omega)] at hw
    rw [rl_sum_c] at h1
    have hge : e.1 + S - now ≤ rl_lw S now l (o - e.2) (e.1 + S - now) :=
      rl_lw_ge l _ _ (fun f hf => by have := hl.2.2.1 f hf; omega) (Nat.le_refl _)
    rw [rl_dw_c1 (by omega), rl_sum_c]
    by_cases h3 : o ≤ e.2
    · omega
    · rw [rl_lw_w (S := S) (now := now) l (show 0 < o - e.2 by omega) (by omega) (e.1 + S - now) 0] at hw
      have h4 := ih (o - e.2) w ⟨t, hl.2.2.2⟩ (fun f hf => hv f (List.mem_cons_of_mem _ hf)) (by omega) (by omega) hw
      omega
/-! the picture's functions -/
def rl_room : rl_M → Nat
  | (K, _, B, S, _, _, T, A, l) => if K = 0 then T else if K = 1 then B - rl_sum l else (B * S - A) / S
def rl_wait (now c : Nat) : rl_M → Nat
  | (K, R, B, S, _, _, T, A, l) => if K = 1 then rl_lw S now l (rl_sum l + c - B) 0 else if K = 0 then (c - T + R - 1) / R else A + c * S - B * S
def rl_wf (now c : Nat) (x : rl_M) : Nat := if c ≤ rl_room x then 0 else rl_wait now c x
def rl_bu : rl_M → Nat
  | (_, _, B, _, _, _, _, _, _) => B
def rl_gs : rl_M → Int32
  | (_, _, _, _, G, _, _, _, _) => G
def rl_dc : rl_M → Int32
  | (_, _, _, _, _, D, _, _, _) => D
def rl_ans (now c : Nat) (x : rl_M) : Int32 := if c ≤ rl_bu x then nI (rl_wf now c x) else -4
/-- n units later; now is the new time -/
def rl_tick (now n : Nat) : rl_M → rl_M
  | (K, R, B, S, G, D, T, A, l) => (K, R, B, S, G, D, min B (T + R * n), A - n, rl_dw S now l)
def rl_den (d : Int32) : rl_M → rl_M
  | (K, R, B, S, G, D, T, A, l) => (K, R, B, S, G, D + d, T, A, l)
def rl_gr (now c : Nat) : rl_M → rl_M
  | (K, R, B, S, G, D, T, A, l) => if K = 0 then (K, R, B, S, G + nI c, D, T - c, A, l) else if K = 1 then (K, R, B, S, G + nI c, D, T, A, l ++ [(now, c)]) else (K, R, B, S, G + nI c, D, T, A + c * S, l)
def rl_new (K R B S : Nat) : rl_M := (K, R, B, S, 0, 0, B, 0, [])
def rl_OK (now : Nat) : rl_M → Prop
  | (K, R, B, S, _, _, T, A, l) => K ≤ 2 ∧ 1 ≤ R ∧ R ≤ 5 ∧ 1 ≤ B ∧ B ≤ 30 ∧ 1 ≤ S ∧ S ≤ 10 ∧ T ≤ B ∧ A ≤ B * S ∧ rl_LO now l ∧ rl_sum l ≤ B ∧ ∀ e, e ∈ l → now < e.1 + S
theorem rl_OK_tick {now n : Nat} {x : rl_M} (h : rl_OK now x) : rl_OK (now + n) (rl_tick (now + n) n x) := by
  obtain ⟨K, R, B, S, G, D, T, A, l⟩ := x
  obtain ⟨h1, h2, h3, h4, h5, h6, h7, h8, h9, h10, h11, h12⟩ := h
  exact ⟨h1, h2, h3, h4, h5, h6, h7, Nat.min_le_left _ _, by omega, rl_LO_mono (by omega) _ (rl_dw_LO l h10), Nat.le_trans (rl_dw_sum l) h11, rl_dw_live l h10⟩
theorem rl_OK_den {now : Nat} {d : Int32} {x : rl_M} (h : rl_OK now x) : rl_OK now (rl_den d x) := by
  obtain ⟨K, R, B, S, G, D, T, A, l⟩ := x
  exact h
theorem rl_OK_new {now K R B S : Nat} (h1 : K ≤ 2) (h2 : 1 ≤ R) (h3 : R ≤ 5) (h4 : 1 ≤ B) (h5 : B ≤ 30) (h6 : 1 ≤ S) (h7 : S ≤ 10) : rl_OK now (rl_new K R B S) :=
  ⟨h1, h2, h3, h4, h5, h6, h7, Nat.le_refl _, Nat.zero_le _, trivial, Nat.zero_le _, fun e he => absurd he (by simp)⟩
theorem rl_OK_gr {now c : Nat} {x : rl_M} (h : rl_OK now x) (hc : 1 ≤ c) (hr : c ≤ rl_room x) : rl_OK now (rl_gr now c x) := by
  obtain ⟨K, R, B, S, G, D, T, A, l⟩ := x
  obtain ⟨h1, h2, h3, h4, h5, h6, h7, h8, h9, h10, h11, h12⟩ := h
  by_cases k0 : K = 0
  · rw [show rl_gr now c (K, R, B, S, G, D, T, A, l) = (K, R, B, S, G + nI c, D, T - c, A, l) from if_pos k0]
    exact ⟨h1, h2, h3, h4, h5, h6, h7, by omega, h9, h10, h11, h12⟩
  · by_cases k1 : K = 1
    · rw [show rl_gr now c (K, R, B, S, G, D, T, A, l) = (K, R, B, S, G + nI c, D, T, A, l ++ [(now, c)]) from (if_neg k0).trans (if_pos k1)]
      rw [show rl_room (K, R, B, S, G, D, T, A, l) = B - rl_sum l from (if_neg k0).trans (if_pos k1)] at hr
      refine ⟨h1, h2, h3, h4, h5, h6, h7, h8, h9, rl_LO_app hc l h10, ?_, fun e he => ?_⟩
      · rw [rl_sum_app]; omega
      · rcases List.mem_append.mp he with he | he
        · exact h12 e he
        · rw [List.mem_singleton.mp he]; show now < now + S; omega
    · rw [show rl_gr now c (K, R, B, S, G, D, T, A, l) = (K, R, B, S, G + nI c, D, T, A + c * S, l) from (if_neg k0).trans (if_neg k1)]
      rw [show rl_room (K, R, B, S, G, D, T, A, l) = (B * S - A) / S from (if_neg k0).trans (if_neg k1)] at hr
      have hq := (Nat.le_div_iff_mul_le (show 0 < S by omega)).mp hr
      exact ⟨h1, h2, h3, h4, h5, h6, h7, h8, by omega, h10, h11, h12⟩
theorem rl_room_le {now : Nat} {x : rl_M} (h : rl_OK now x) : rl_room x ≤ rl_bu x := by
  obtain ⟨K, R, B, S, G, D, T, A, l⟩ := x
  obtain ⟨h1, h2, h3, h4, h5, h6, h7, h8, h9, h10, h11, h12⟩ := h
  show (if K = 0 then T else if K = 1 then B - rl_sum l else (B * S - A) / S) ≤ B
  by_cases k0 : K = 0
  · rw [if_pos k0]; exact h8
  · by_cases k1 : K = 1
    · rw [if_neg k0, if_pos k1]; omega
    · rw [if_neg k0, if_neg k1]
      exact Nat.div_le_of_le_mul (by rw [Nat.mul_comm S B]; omega)
theorem rl_bu_le {now : Nat} {x : rl_M} (h : rl_OK now x) : rl_bu x ≤ 30 := by
  obtain ⟨K, R, B, S, G, D, T, A, l⟩ := x
  exact h.2.2.2.2.1
theorem rl_tt {now a b : Nat} (x : rl_M) : rl_tick (now + a + b) b (rl_tick (now + a) a x) = rl_tick (now + a + b) (a + b) x := by
  obtain ⟨K, R, B, S, G, D, T, A, l⟩ := x
  show (K, R, B, S, G, D, min B (min B (T + R * a) + R * b), A - a - b, rl_dw S (now + a + b) (rl_dw S (now + a) l)) = (K, R, B, S, G, D, min B (T + R * (a + b)), A - (a + b), rl_dw S (now + a + b) l)
  rw [rl_dw_dw (by omega), Nat.sub_sub, Nat.mul_add, show min B (min B (T + R * a) + R * b) = min B (T + (R * a + R * b)) by omega]
theorem rl_t0 {now : Nat} {x : rl_M} (h : rl_OK now x) : rl_tick now 0 x = x := by
  obtain ⟨K, R, B, S, G, D, T, A, l⟩ := x
  obtain ⟨h1, h2, h3, h4, h5, h6, h7, h8, h9, h10, h11, h12⟩ := h
  show (K, R, B, S, G, D, min B (T + R * 0), A - 0, rl_dw S now l) = (K, R, B, S, G, D, T, A, l)
  rw [rl_dw_id h12, Nat.mul_zero, Nat.add_zero, Nat.sub_zero, Nat.min_eq_right h8]
theorem rl_d0 (x : rl_M) : rl_den (nI 0) x = x := by
  obtain ⟨K, R, B, S, G, D, T, A, l⟩ := x
  show (K, R, B, S, G, D + nI 0, T, A, l) = (K, R, B, S, G, D, T, A, l)
  rw [nI_0, Int32.add_zero]
theorem rl_dd (i : Nat) (x : rl_M) : rl_den 1 (rl_den (nI i) x) = rl_den (nI (i + 1)) x := by
  obtain ⟨K, R, B, S, G, D, T, A, l⟩ := x
  show (K, R, B, S, G, D + nI i + 1, T, A, l) = (K, R, B, S, G, D + nI (i + 1), T, A, l)
  rw [Int32.add_assoc, nI_1]
theorem rl_td (now n : Nat) (d : Int32) (x : rl_M) : rl_tick now n (rl_den d x) = rl_den d (rl_tick now n x) := by
  obtain ⟨K, R, B, S, G, D, T, A, l⟩ := x
  rfl
theorem rl_room_den (d : Int32) (x : rl_M) : rl_room (rl_den d x) = rl_room x := by
  obtain ⟨K, R, B, S, G, D, T, A, l⟩ := x
  rfl
theorem rl_bu_den (d : Int32) (x : rl_M) : rl_bu (rl_den d x) = rl_bu x := by
  obtain ⟨K, R, B, S, G, D, T, A, l⟩ := x
  rfl
theorem rl_bu_tick (now n : Nat) (x : rl_M) : rl_bu (rl_tick now n x) = rl_bu x := by
  obtain ⟨K, R, B, S, G, D, T, A, l⟩ := x
  rfl
theorem rl_wait_den (now c : Nat) (d : Int32) (x : rl_M) : rl_wait now c (rl_den d x) = rl_wait now c x := by
  obtain ⟨K, R, B, S, G, D, T, A, l⟩ := x
  rfl
theorem rl_wf_den (now c : Nat) (d : Int32) (x : rl_M) : rl_wf now c (rl_den d x) = rl_wf now c x := by
  unfold rl_wf
  rw [rl_room_den, rl_wait_den]
theorem rl_ans_den (now c : Nat) (d : Int32) (x : rl_M) : rl_ans now c (rl_den d x) = rl_ans now c x := by
  unfold rl_ans
  rw [rl_wf_den, rl_bu_den]
theorem rl_gr_den (now c : Nat) (d : Int32) (x : rl_M) : rl_gr now c (rl_den d x) = rl_den d (rl_gr now c x) := by
  obtain ⟨K, R, B, S, G, D, T, A, l⟩ := x
  show (if K = 0 then (K, R, B, S, G + nI c, D + d, T - c, A, l) else if K = 1 then (K, R, B, S, G + nI c, D + d, T, A, l ++ [(now, c)]) else (K, R, B, S, G + nI c, D + d, T, A + c * S, l)) = rl_den d (if K = 0 then (K, R, B, S, G + nI c, D, T - c, A, l) else if K = 1 then (K, R, B, S, G + nI c, D, T, A, l ++ [(now, c)]) else (K, R, B, S, G + nI c, D, T, A + c * S, l))
  by_cases k0 : K = 0
  · rw [if_pos k0, if_pos k0]; rfl
  · by_cases k1 : K = 1
    · rw [if_neg k0, if_pos k1, if_neg k0, if_pos k1]; rfl
    · rw [if_neg k0, if_neg k1, if_neg k0, if_neg k1]; rfl
theorem rl_gs_den (d : Int32) (x : rl_M) : rl_gs (rl_den d x) = rl_gs x := by
  obtain ⟨K, R, B, S, G, D, T, A, l⟩ := x
  rfl
theorem rl_dc_den (d : Int32) (x : rl_M) : rl_dc (rl_den d x) = rl_dc x + d := by
  obtain ⟨K, R, B, S, G, D, T, A, l⟩ := x
  rfl
theorem rl_dc_tick (now n : Nat) (x : rl_M) : rl_dc (rl_tick now n x) = rl_dc x := by
  obtain ⟨K, R, B, S, G, D, T, A, l⟩ := x
  rfl
theorem rl_dc_gr (now c : Nat) (x : rl_M) : rl_dc (rl_gr now c x) = rl_dc x := by
  obtain ⟨K, R, B, S, G, D, T, A, l⟩ := x
  show rl_dc (if K = 0 then (K, R, B, S, G + nI c, D, T - c, A, l) else if K = 1 then (K, R, B, S, G + nI c, D, T, A, l ++ [(now, c)]) else (K, R, B, S, G + nI c, D, T, A + c * S, l)) = D
  by_cases k0 : K = 0
  · rw [if_pos k0]; rfl
  · by_cases k1 : K = 1
    · rw [if_neg k0, if_pos k1]; rfl
    · rw [if_neg k0, if_neg k1]; rfl
/-! waits: plain numbers -/
theorem rl_bk {T c B R i : Nat} (hR1 : 1 ≤ R) (hR : R ≤ 5) (hT : T < c) (hc : c ≤ B) (hi : i < (c - T + R - 1) / R) : min B (T + R * i) < c ∧ (c - min B (T + R * i) + R - 1) / R = (c - T + R - 1) / R - i := by
  have : R = 1 ∨ R = 2 ∨ R = 3 ∨ R = 4 ∨ R = 5 := by omega
  rcases this with rfl | rfl | rfl | rfl | rfl <;> omega
theorem rl_bk3 {T c B R : Nat} (hR1 : 1 ≤ R) (hR : R ≤ 5) (hT : T < c) (hc : c ≤ B) : c ≤ min B (T + R * ((c - T + R - 1) / R)) := by
  have : R = 1 ∨ R = 2 ∨ R = 3 ∨ R = 4 ∨ R = 5 := by omega
  rcases this with rfl | rfl | rfl | rfl | rfl <;> omega
theorem rl_bk1 {T c R : Nat} (hR1 : 1 ≤ R) (hR : R ≤ 5) (hT : T < c) (hc : c ≤ 30) : 0 < (c - T + R - 1) / R ∧ (c - T + R - 1) / R ≤ 300 := by
  have : R = 1 ∨ R = 2 ∨ R = 3 ∨ R = 4 ∨ R = 5 := by omega
  rcases this with rfl | rfl | rfl | rfl | rfl <;> omega
theorem rl_sp {B S A c : Nat} (hS : 1 ≤ S) : (B * S - A) / S < c ↔ B * S - A < c * S := Nat.div_lt_iff_lt_mul hS
theorem rl_cS {B S c : Nat} (hc : c ≤ B) : c * S ≤ B * S := Nat.mul_le_mul_right S hc
theorem rl_30 {S c : Nat} (hc : c ≤ 30) (hS : S ≤ 10) : c * S ≤ 300 := Nat.mul_le_mul hc hS
/-- the wait of one meter: its bounds; while it lasts; at its end -/
theorem rl_W {now c : Nat} {x : rl_M} (h : rl_OK now x) (hc : 1 ≤ c) (hB : c ≤ rl_bu x) :
    (rl_room x < c → 0 < rl_wait now c x ∧ rl_wait now c x ≤ 300) ∧
    (rl_room x < c → ∀ i, i < rl_wait now c x → rl_room (rl_tick (now + i) i x) < c ∧ rl_wait (now + i) c (rl_tick (now + i) i x) = rl_wait now c x - i) ∧
    (rl_room x < c → c ≤ rl_room (rl_tick (now + rl_wait now c x) (rl_wait now c x) x)) := by
  obtain ⟨K, R, B, S, G, D, T, A, l⟩ := x
  obtain ⟨h1, h2, h3, h4, h5, h6, h7, h8, h9, h10, h11, h12⟩ := h
  have hB' : c ≤ B := hB
  by_cases k0 : K = 0
  · have e1 : ∀ (T A : Nat) (l : List (Nat × Nat)), rl_room (K, R, B, S, G, D, T, A, l) = T := fun T A l => if_pos k0
    have e2 : ∀ (now T A : Nat) (l : List (Nat × Nat)), rl_wait now c (K, R, B, S, G, D, T, A, l) = (c - T + R - 1) / R := fun now T A l => (if_neg (by omega)).trans (if_pos k0)
    unfold rl_tick
    simp only [e1, e2]
    exact ⟨fun hT => rl_bk1 h2 h3 hT (by omega), fun hT i hi => rl_bk h2 h3 hT hB' hi, fun hT => rl_bk3 h2 h3 hT hB'⟩
  · by_cases k1 : K = 1
    · have e1 : ∀ (T A : Nat) (l : List (Nat × Nat)), rl_room (K, R, B, S, G, D, T, A, l) = B - rl_sum l := fun T A l => (if_neg k0).trans (if_pos k1)
      have e2 : ∀ (now T A : Nat) (l : List (Nat × Nat)), rl_wait now c (K, R, B, S, G, D, T, A, l) = rl_lw S now l (rl_sum l + c - B) 0 := fun now T A l => if_pos k1
      unfold rl_tick
      simp only [e1, e2]
      refine ⟨fun hr => ⟨rl_lw_pos l h12 (by omega) (by omega), Nat.le_trans (rl_lw_le (v := S) l _ _ (fun f hf => by have := rl_LO_le l h10 f hf; omega) (by omega)) (by omega)⟩, fun hr i hi => ?_, fun hr => ?_⟩
      · have q := rl_lw_2 l (rl_sum l + c - B) (by omega) (by omega) hi
        have q2 := rl_dw_sum (S := S) (now := now + i) l
        refine ⟨by omega, ?_⟩
        rw [← q.2]
        congr 1
        omega
      · have q := rl_lw_3 l (rl_sum l + c - B) _ ⟨now, h10⟩ h12 (by omega) (by omega) (Nat.le_refl _)
        omega
    · have e1 : ∀ (T A : Nat) (l : List (Nat × Nat)), rl_room (K, R, B, S, G, D, T, A, l) = (B * S - A) / S := fun T A l => (if_neg k0).trans (if_neg k1)
      have e2 : ∀ (now T A : Nat) (l : List (Nat × Nat)), rl_wait now c (K, R, B, S, G, D, T, A, l) = A + c * S - B * S := fun now T A l => (if_neg k1).trans (if_neg k0)
      unfold rl_tick
      simp only [e1, e2]
      have hq := rl_cS (S := S) hB'
      have hq2 := rl_30 (show c ≤ 30 by omega) h7
      refine ⟨fun hr => ?_, fun hr i hi => ?_, fun hr => ?_⟩
      · have hr' := (rl_sp h6).mp hr
        omega
      · have hr' := (rl_sp h6).mp hr
        exact ⟨(rl_sp h6).mpr (by omega), by omega⟩
      · have hr' := (rl_sp h6).mp hr
        exact (Nat.le_div_iff_mul_le (show 0 < S by omega)).mpr (by omega)
theorem rl_wf_le {now c : Nat} {x : rl_M} (h : rl_OK now x) (hc : 1 ≤ c) (hB : c ≤ rl_bu x) : rl_wf now c x ≤ 300 := by
  unfold rl_wf
  by_cases e : c ≤ rl_room x
  · rw [if_pos e]; omega
  · rw [if_neg e]; exact ((rl_W h hc hB).1 (by omega)).2
theorem rl_wf_2 {now c : Nat} {x : rl_M} (h : rl_OK now x) (hc : 1 ≤ c) (hB : c ≤ rl_bu x) {i : Nat} (hi : i < rl_wf now c x) : rl_room (rl_tick (now + i) i x) < c ∧ rl_wf (now + i) c (rl_tick (now + i) i x) = rl_wf now c x - i := by
  unfold rl_wf at hi ⊢
  by_cases e : c ≤ rl_room x
  · rw [if_pos e] at hi; omega
  · rw [if_neg e] at hi ⊢
    have q := (rl_W h hc hB).2.1 (by omega) i hi
    exact ⟨q.1, by rw [if_neg (by omega)]; exact q.2⟩
theorem rl_wf_3 {now c : Nat} {x : rl_M} (h : rl_OK now x) (hc : 1 ≤ c) (hB : c ≤ rl_bu x) : c ≤ rl_room (rl_tick (now + rl_wf now c x) (rl_wf now c x) x) := by
  unfold rl_wf
  by_cases e : c ≤ rl_room x
  · rw [if_pos e, Nat.add_zero, rl_t0 h]; exact e
  · rw [if_neg e]; exact (rl_W h hc hB).2.2 (by omega)
end
section
/-! part 2: the relation between a state and its picture -/
/-- the ring holds the grants l from place h on -/
def rl_Ring (tA cA : Nat → Int32) (q : Nat) : Nat → List (Nat × Nat) → Prop
  | _, [] => True
  | h, e :: l => tA (q + h % 32) = nI e.1 ∧ cA (q + h % 32) = nI e.2 ∧ rl_Ring tA cA q (h + 1) l
def rl_MT (now R B T : Nat) (tk fl : Int32) (C : Prop) : Prop := ∃ t f : Nat, tk = nI t ∧ fl = nI f ∧ f ≤ now ∧ t ≤ B ∧ T = min B (t + R * (now - f)) ∧ (C → t = T ∧ f = now)
def rl_MD (now A : Nat) (du : Int32) : Prop := (A = 0 → du ≤ nI now) ∧ (0 < A → du = nI (now + A))
def rl_ML (now S B : Nat) (l : List (Nat × Nat)) (hd sz ru : Int32) (tA cA : Nat → Int32) (q : Nat) (C : Prop) : Prop :=
  ∃ (h : Nat) (k : List (Nat × Nat)), hd = nI (h % 32) ∧ sz = nI k.length ∧ ru = nI (rl_sum k) ∧ rl_Ring tA cA q h k ∧ rl_LO now k ∧ rl_sum k ≤ B ∧ l = rl_dw S now k ∧ (C → k = l)
/-- one meter; C: it is caught up -/
def rl_MR (now : Nat) (k r b s g d tk fl du hd sz ru : Int32) (tA cA : Nat → Int32) (q : Nat) (x : rl_M) (C : Prop) : Prop := match x with
  | (K, R, B, S, G, D, T, A, l) => rl_OK now (K, R, B, S, G, D, T, A, l) ∧ (k = nI K ∧ r = nI R ∧ b = nI B ∧ s = nI S ∧ g = G ∧ d = D) ∧ rl_MT now R B T tk fl C ∧ rl_MD now A du ∧ rl_ML now S B l hd sz ru tA cA q C
/-- the whole state: the first N meters match the picture P; those in C are caught up -/
def rl_Rel (N : Nat) (u : St1) (now : Nat) (P : Nat → rl_M) (C : Nat → Prop) : Prop := match u with
  | (f0, a1, a2, a3, a4, a5, a6, a7, a8, a9, a10, a11, a12, a13, a14) => f0 = nI now ∧ now ≤ 100000 ∧ ∀ j, j < N → rl_MR now (a1 j) (a2 j) (a3 j) (a4 j) (a5 j) (a6 j) (a7 j) (a8 j) (a9 j) (a10 j) (a11 j) (a12 j) a13 a14 (j * 32) (P j) (C j)
abbrev rl_F : Nat → Prop := fun _ => False
def rl_up (P : Nat → rl_M) (m : Nat) (x : rl_M) : Nat → rl_M := fun j => if j = m then x else P j
theorem rl_up_s {P : Nat → rl_M} {m : Nat} {x : rl_M} : rl_up P m x m = x := if_pos rfl
theorem rl_up_n {P : Nat → rl_M} {m j : Nat} {x : rl_M} (h : j ≠ m) : rl_up P m x j = P j := if_neg h
theorem rl_MR_C {now : Nat} {k r b s g d tk fl du hd sz ru : Int32} {tA cA : Nat → Int32} {q : Nat} {x : rl_M} {C C' : Prop} (hc : C' → C) (h : rl_MR now k r b s g d tk fl du hd sz ru tA cA q x C) : rl_MR now k r b s g d tk fl du hd sz ru tA cA q x C' := by
  obtain ⟨K, R, B, S, G, D, T, A, l⟩ := x
  obtain ⟨h1, h2, ⟨t, f, q1, q2, q3, q4, q5, q6⟩, h4, ⟨h, k, w1, w2, w3, w4, w5, w6, w7, w8⟩⟩ := h
  exact ⟨h1, h2, ⟨t, f, q1, q2, q3, q4, q5, fun z => q6 (hc z)⟩, h4, ⟨h, k, w1, w2, w3, w4, w5, w6, w7, fun z => w8 (hc z)⟩⟩
theorem rl_wk {N now : Nat} {u : St1} {P : Nat → rl_M} {C C' : Nat → Prop} (hc : ∀ j, C' j → C j) (h : rl_Rel N u now P C) : rl_Rel N u now P C' := by
  obtain ⟨f0, a1, a2, a3, a4, a5, a6, a7, a8, a9, a10, a11, a12, a13, a14⟩ := u
  exact ⟨h.1, h.2.1, fun j hj => rl_MR_C (hc j) (h.2.2 j hj)⟩
theorem rl_wF {N now : Nat} {u : St1} {P : Nat → rl_M} {C : Nat → Prop} (h : rl_Rel N u now P C) : rl_Rel N u now P rl_F := rl_wk (fun _ z => z.elim) h
theorem rl_cg {N now : Nat} {u : St1} {P P' : Nat → rl_M} {C : Nat → Prop} (hp : ∀ j, j < N → P' j = P j) (h : rl_Rel N u now P C) : rl_Rel N u now P' C := by
  obtain ⟨f0, a1, a2, a3, a4, a5, a6, a7, a8, a9, a10, a11, a12, a13, a14⟩ := u
  exact ⟨h.1, h.2.1, fun j hj => by rw [hp j hj]; exact h.2.2 j hj⟩
theorem rl_ok {N now : Nat} {u : St1} {P : Nat → rl_M} {C : Nat → Prop} (h : rl_Rel N u now P C) {j : Nat} (hj : j < N) : rl_OK now (P j) := by
  obtain ⟨f0, a1, a2, a3, a4, a5, a6, a7, a8, a9, a10, a11, a12, a13, a14⟩ := u
  have q := h.2.2 j hj
  rcases hP : P j with ⟨K, R, B, S, G, D, T, A, l⟩
  rw [hP] at q
  exact q.1
theorem rl_now {N now : Nat} {u : St1} {P : Nat → rl_M} {C : Nat → Prop} (h : rl_Rel N u now P C) : now ≤ 100000 := by
  obtain ⟨f0, a1, a2, a3, a4, a5, a6, a7, a8, a9, a10, a11, a12, a13, a14⟩ := u
  exact h.2.1
/-! rings -/
theorem rl_Ring_fr {tA cA tB cB : Nat → Int32} {q : Nat} (hf : ∀ i, i < 32 → tB (q + i) = tA (q + i) ∧ cB (q + i) = cA (q + i)) (l : List (Nat × Nat)) : ∀ h : Nat, rl_Ring tA cA q h l → rl_Ring tB cB q h l := by
  induction l with
  | nil => intro h _; trivial
  | cons e l ih =>
    intro h hr
    have z := hf (h % 32) (by omega)
    exact ⟨z.1.trans hr.1, z.2.trans hr.2.1, ih (h + 1) hr.2.2⟩
theorem rl_Ring_app {tA cA tB cB : Nat → Int32} {q t c : Nat} (l : List (Nat × Nat)) : ∀ h : Nat, (∀ i, i < l.length → tB (q + (h + i) % 32) = tA (q + (h + i) % 32) ∧ cB (q + (h + i) % 32) = cA (q + (h + i) % 32)) → rl_Ring tA cA q h l →
    tB (q + (h + l.length) % 32) = nI t → cB (q + (h + l.length) % 32) = nI c → rl_Ring tB cB q h (l ++ [(t, c)]) := by
  induction l with
  | nil => intro h _ _ h1 h2; exact ⟨h1, h2, trivial⟩
  | cons e l ih =>
    intro h hf hr h1 h2
    have z := hf 0 (by simp)
    rw [Nat.add_zero] at z
    rw [List.length_cons, show h + (l.length + 1) = h + 1 + l.length by omega] at h1 h2
    refine ⟨z.1.trans hr.1, z.2.trans hr.2.1, ih (h + 1) (fun i hi => ?_) hr.2.2 h1 h2⟩
    rw [show h + 1 + i = h + (i + 1) by omega]
    exact hf (i + 1) (by rw [List.length_cons]; omega)
/-! numbers -/
theorem rl_subl {now S t : Nat} (h1 : now < 2 ^ 30) (h2 : S < 2 ^ 30) (h3 : t < 2 ^ 30) : nI now - nI S < nI t ↔ now < t + S := by
  rw [Int32.lt_iff_toInt_lt, pk_sub_toInt h1 h2, nI_toInt (by omega)]
  omega
theorem rl_subn {a b : Nat} (h1 : a ≤ b) (h2 : b < 2 ^ 30) : nI a - nI b ≤ 0 := by
  rw [Int32.le_iff_toInt_le, pk_sub_toInt (by omega) h2, show (0 : Int32).toInt = 0 from by decide]
  omega
theorem rl_hd1 (h : Nat) : (nI (h % 32) + 1) &&& 31 = nI ((h + 1) % 32) := by
  rw [nI_1, pk_andN (by omega) 5 (by decide), show (h % 32 + 1) % 2 ^ 5 = (h + 1) % 32 by omega]
theorem rl_hdi {h i : Nat} (hi : i < 64) : (nI (h % 32) + nI i) &&& 31 = nI ((h + i) % 32) := by
  rw [nI_add, pk_andN (by omega) 5 (by decide), show (h % 32 + i) % 2 ^ 5 = (h + i) % 32 by omega]
theorem rl_at (m q : Nat) : nI m * 32 + nI q = nI (m * 32 + q) := by
  show nI m * nI 32 + nI q = _
  rw [pk_mul, nI_add]
theorem rl_ms {B T R now : Nat} (h : T ≤ B) : T = min B (T + R * (now - now)) := by
  rw [Nat.sub_self, Nat.mul_zero, Nat.add_zero, Nat.min_eq_right h]
/-! time goes on -/
theorem rl_MR_tick {now n : Nat} (hn : now + n ≤ 100000) {k r b s g d tk fl du hd sz ru : Int32} {tA cA : Nat → Int32} {q : Nat} {x : rl_M} {C : Prop} (h : rl_MR now k r b s g d tk fl du hd sz ru tA cA q x C) : rl_MR (now + n) k r b s g d tk fl du hd sz ru tA cA q (rl_tick (now + n) n x) False := by
  obtain ⟨K, R, B, S, G, D, T, A, l⟩ := x
  obtain ⟨h1, h2, ⟨t, f, q1, q2, q3, q4, q5, q6⟩, h4, ⟨h, k, w1, w2, w3, w4, w5, w6, w7, w8⟩⟩ := h
  refine ⟨rl_OK_tick h1, h2, ⟨t, f, q1, q2, by omega, q4, ?_, fun z => z.elim⟩, ⟨fun z => ?_, fun z => ?_⟩, ⟨h, k, w1, w2, w3, w4, rl_LO_mono (by omega) k w5, w6, ?_, fun z => z.elim⟩⟩
  · rw [q5, show now + n - f = (now - f) + n by omega, Nat.mul_add]
    omega
  · by_cases e : A = 0
    · exact Int32.le_trans (h4.1 e) (nI_le (by omega) (by omega))
    · rw [h4.2 (by omega)]
      exact nI_le (by omega) (by omega)
  · rw [h4.2 (by omega)]
    congr 1
    omega
  · rw [w7, rl_dw_dw (by omega)]
theorem rl_MR_den {now : Nat} {k r b s g d tk fl du hd sz ru : Int32} {tA cA : Nat → Int32} {q : Nat} {x : rl_M} {C : Prop} (h : rl_MR now k r b s g d tk fl du hd sz ru tA cA q x C) : rl_MR now k r b s g (d + 1) tk fl du hd sz ru tA cA q (rl_den 1 x) C := by
  obtain ⟨K, R, B, S, G, D, T, A, l⟩ := x
  obtain ⟨h1, ⟨e1, e2, e3, e4, e5, e6⟩, h3⟩ := h
  exact ⟨h1, ⟨e1, e2, e3, e4, e5, by rw [e6]⟩, h3⟩
theorem rl_MR_new {now K R B S : Nat} (h1 : K ≤ 2) (h2 : 1 ≤ R) (h3 : R ≤ 5) (h4 : 1 ≤ B) (h5 : B ≤ 30) (h6 : 1 ≤ S) (h7 : S ≤ 10) {tA cA : Nat → Int32} {q : Nat} {C : Prop} (hn : now ≤ 100000) :
    rl_MR now (nI K) (nI R) (nI B) (nI S) 0 0 (nI B) (nI now) (-1000000) 0 0 0 tA cA q (rl_new K R B S) C := by
  refine ⟨rl_OK_new h1 h2 h3 h4 h5 h6 h7, ⟨rfl, rfl, rfl, rfl, rfl, rfl⟩, ⟨B, now, rfl, rfl, Nat.le_refl _, Nat.le_refl _, rl_ms (Nat.le_refl _), fun _ => ⟨rfl, rfl⟩⟩, ⟨fun _ => ?_, fun z => absurd z (by omega)⟩, ⟨0, [], rfl, rfl, rfl, trivial, trivial, Nat.zero_le _, rfl, fun _ => rfl⟩⟩
  rw [Int32.le_iff_toInt_le, nI_toInt (by omega), show (-1000000 : Int32).toInt = -1000000 from by decide]
  omega
end
section
/-! part 3: the methods, one by one -/
theorem rl_bad {post : Int32 → Prop} {m : Nat} (hm : m < 4) (h : post 0) : wpX_bad post () (nI m) :=
  br_f (nI_pos (by omega)) (br_t (nI_lt (b := 4) hm (by decide)) h)
theorem rl_badN {post : Int32 → Prop} {p : Int32} (hp : p < 0 ∨ nI 4 ≤ p) (h : post 1) : wpX_bad post () p :=
  br_c (fun _ => h) (fun q => br_c (fun z => absurd z (Int32.not_lt.mpr (hp.resolve_left q))) (fun _ => h))
theorem rl_badCost {post : Int32 → Prop} {c : Nat} (h1 : 1 ≤ c) (hc : c ≤ 20) (h : post 0) : wpX_badCost post () (nI c) :=
  br_f (nI_nlt (b := 1) h1 (by omega)) (br_t (nI_le (b := 20) hc (by decide)) h)
theorem rl_badCostN {post : Int32 → Prop} {p : Int32} (hp : p < 1 ∨ ¬ p ≤ 20) (h : post 1) : wpX_badCost post () p :=
  br_c (fun _ => h) (fun q => br_c (fun z => absurd z (hp.resolve_left q)) (fun _ => h))
theorem rl_cost (p : Int32) : (p < 1 ∨ ¬ p ≤ 20) ∨ ∃ c : Nat, 1 ≤ c ∧ c ≤ 20 ∧ p = nI c := by
  by_cases h1 : p < 1
  · exact Or.inl (Or.inl h1)
  · by_cases h2 : p ≤ 20
    · have h0 : ¬ p < 0 := fun z => h1 (by
        rw [Int32.lt_iff_toInt_lt] at z ⊢
        have e0 : (0 : Int32).toInt = 0 := by decide
        have e1 : (1 : Int32).toInt = 1 := by decide
        omega)
      obtain ⟨j, hj, rfl⟩ := nI_of2 (M := 20) (n := 20) (by decide) h0 h2
      refine Or.inr ⟨j, ?_, hj, rfl⟩
      rcases Nat.eq_zero_or_pos j with rfl | z
      · exact absurd (nI_lt (a := 0) (b := 1) (by decide) (by decide)) h1
      · exact z
    · exact Or.inl (Or.inr h2)
/-! up to now -/
theorem rl_64 {post : St1 → Prop} {m now S : Nat} (hm : m < 4) (hn : now ≤ 100000) (hS : S ≤ 10) {a1 a2 a3 a4 a5 a6 a7 a8 a9 a13 a14 : Nat → Int32} (h4 : a4 m = nI S) :
    ∀ (l : List (Nat × Nat)) (n i h : Nat) (a10 a11 a12 : Nat → Int32), i + l.length < 32 → l.length < n → a10 m = nI (h % 32) → a11 m = nI l.length → a12 m = nI (rl_sum l) → rl_Ring a13 a14 (m * 32) h l → rl_LO now l →
    (∀ (b10 b11 b12 : Nat → Int32) (h' : Nat), (∀ j, j ≠ m → b10 j = a10 j ∧ b11 j = a11 j ∧ b12 j = a12 j) → b10 m = nI (h' % 32) → b11 m = nI (rl_dw S now l).length → b12 m = nI (rl_sum (rl_dw S now l)) → rl_Ring a13 a14 (m * 32) h' (rl_dw S now l) → post (nI now, a1, a2, a3, a4, a5, a6, a7, a8, a9, b10, b11, b12, a13, a14)) →
    wX_catchUp_64 post (nI m) (nI now) n (nI i) a1 a2 a3 a4 a5 a6 a7 a8 a9 a10 a11 a12 a13 a14 := by
  intro l
  have cl : (nI m).toNatClampNeg = m := nI_clamp (by omega)
  induction l with
  | nil =>
    intro n i h a10 a11 a12 hi hn' e10 e11 e12 hr hl H
    rw [List.length_nil] at hi hn'
    obtain ⟨n, rfl⟩ : ∃ k, n = k + 1 := ⟨n - 1, by omega⟩
    refine pk_le 32 i (fun z => absurd z (by omega)) (fun _ => ⟨pk_in m 4 hm, ?_⟩)
    rw [cl]
    exact pk_le 0 0 (fun _ => H a10 a11 a12 h (fun j _ => ⟨rfl, rfl, rfl⟩) e10 e11 e12 hr) (fun z => absurd z (by omega)) e11
  | cons e l ih =>
    intro n i h a10 a11 a12 hi hn' e10 e11 e12 hr hl H
    rw [List.length_cons] at hi hn' e11
    obtain ⟨n, rfl⟩ : ∃ k, n = k + 1 := ⟨n - 1, by omega⟩
    have ex : nI m * 32 + a10 m = nI (m * 32 + h % 32) := by rw [e10]; exact rl_at m _
    have hq : m * 32 + h % 32 < 128 := by omega
    have cx : (nI (m * 32 + h % 32)).toNatClampNeg = m * 32 + h % 32 := nI_clamp (by omega)
    have he := hl.1
    refine pk_le 32 i (fun z => absurd z (by omega)) (fun _ => ⟨pk_in m 4 hm, ?_⟩)
    rw [cl, ex, cx, h4, hr.1, hr.2.1]
    refine pk_le (l.length + 1) 0 (fun z => absurd z (by omega)) (fun _ => ⟨pk_in m 4 hm, pk_in _ 128 hq, pk_in m 4 hm, ?_⟩) e11
    refine ek_if (rl_subl (by omega) (by omega) (by omega)) (fun z => ?_) (fun z => ?_)
    · have q : rl_dw S now (e :: l) = e :: l := rl_dw_c2 (by omega)
      rw [q] at H
      exact H a10 a11 a12 h (fun j _ => ⟨rfl, rfl, rfl⟩) e10 e11 e12 hr
    · have q : rl_dw S now (e :: l) = rl_dw S now l := rl_dw_c1 (by omega)
      rw [q] at H
      refine ⟨pk_in m 4 hm, pk_in m 4 hm, pk_in _ 128 hq, pk_in m 4 hm, ?_⟩
      rintro _ rfl
      refine ⟨pk_in m 4 hm, pk_in m 4 hm, ?_⟩
      rintro _ rfl
      refine ⟨pk_in m 4 hm, pk_in m 4 hm, ?_⟩
      rintro _ rfl
      refine nm_r (nI_1 i) ?_
      refine ih n (i + 1) (h + 1) _ _ _ (by omega) (by omega) ?_ ?_ ?_ hr.2.2 hl.2.2.2 ?_
      · rw [pk_us, e10]; exact rl_hd1 h
      · rw [pk_us, e11]; exact nI_pred _
      · rw [pk_us, e12, rl_sum_c, pk_sub (by omega), Nat.add_sub_cancel_left]
      · intro b10 b11 b12 h' hj q10 q11 q12 qr
        refine H b10 b11 b12 h' (fun j hne => ?_) q10 q11 q12 qr
        have w := hj j hne
        rw [pk_un hne, pk_un hne, pk_un hne] at w
        exact w
theorem rl_catchUp {post : St1 → Prop} {m now : Nat} {P : Nat → rl_M} {C : Nat → Prop} {u : St1} (hm : m < 4) (h : rl_Rel 4 u now P C) (H : ∀ u', rl_Rel 4 u' now P (fun j => j = m ∨ C j) → post u') : wpX_catchUp post u (nI m) := by
  obtain ⟨f0, a1, a2, a3, a4, a5, a6, a7, a8, a9, a10, a11, a12, a13, a14⟩ := u
  obtain ⟨rfl, hn, hr⟩ := h
  have cl : (nI m).toNatClampNeg = m := nI_clamp (by omega)
  have hx := hr m hm
  rcases hP : P m with ⟨K, R, B, S, G, D, T, A, l⟩
  rw [hP] at hx
  obtain ⟨ok, ⟨e1, e2, e3, e4, e5, e6⟩, ⟨t, f, e7, e8, hf, ht, eT, _⟩, hd, ⟨h, k, e10, e11, e12, hri, hlo, hsu, el, _⟩⟩ := hx
  have ok' := ok
  obtain ⟨o1, o2, o3, o4, o5, o6, o7, o8, o9, o10, o11, o12⟩ := ok
  have hlen := rl_LO_len k hlo
  have hb : R * (now - f) ≤ 5 * 100000 := Nat.mul_le_mul o3 (by omega)
  have ex : a7 m + a2 m * (nI now - a8 m) = nI (t + R * (now - f)) := by rw [e7, e2, e8, pk_sub hf, pk_mul, nI_add]
  have key : ∀ z, z = nI T → wX_catchUp_51 post (nI m) z (nI m) (nI now) a1 a2 a3 a4 a5 a6 a7 a8 a9 a10 a11 a12 a13 a14 := by
    intro z hz
    unfold wX_catchUp_51
    rw [cl]
    refine ⟨pk_in m 4 hm, ?_⟩
    rintro _ rfl
    refine ⟨pk_in m 4 hm, ?_⟩
    rintro _ rfl
    refine ⟨k.length + 1, rl_64 hm hn o7 e4 k (k.length + 1) 0 h a10 a11 a12 (by omega) (by omega) e10 e11 e12 hri hlo ?_⟩
    intro b10 b11 b12 h' hj q10 q11 q12 qr
    apply H
    refine ⟨rfl, hn, fun j hj4 => ?_⟩
    by_cases e : j = m
    · rw [e, hP, pk_us, pk_us]
      rw [← el] at q11 q12 qr
      exact ⟨ok', ⟨e1, e2, e3, e4, e5, e6⟩, ⟨T, now, hz, rfl, Nat.le_refl _, o8, rl_ms o8, fun _ => ⟨rfl, rfl⟩⟩, hd, ⟨h', l, q10, q11, q12, qr, o10, o11, (rl_dw_id o12).symm, fun _ => rfl⟩⟩
    · have w := hj j e
      rw [pk_un e, pk_un e, w.1, w.2.1, w.2.2]
      exact rl_MR_C (fun z => z.resolve_left e) (hr j hj4)
  unfold wpX_catchUp
  dsimp only
  rw [cl]
  refine ⟨pk_in m 4 hm, pk_in m 4 hm, pk_in m 4 hm, nm_r ex ⟨pk_in m 4 hm, ?_⟩⟩
  exact pk_le B (t + R * (now - f)) (fun z => ⟨pk_in m 4 hm, key _ (by rw [e3, show T = B by omega])⟩) (fun z => key _ (by rw [show T = t + R * (now - f) by omega])) e3
theorem rl_base {post : Int32 → Prop} {m now A : Nat} (hm : m < 4) (hn : now ≤ 100000) (hA : A ≤ 300) {a1 a2 a3 a4 a5 a6 a7 a8 a9 a10 a11 a12 a13 a14 : Nat → Int32} (hd : rl_MD now A (a9 m)) (H : post (nI (now + A))) : wpX_base post (nI now, a1, a2, a3, a4, a5, a6, a7, a8, a9, a10, a11, a12, a13, a14) (nI m) := by
  have cl : (nI m).toNatClampNeg = m := nI_clamp (by omega)
  unfold wpX_base
  dsimp only
  rw [cl]
  refine ⟨pk_in m 4 hm, ?_⟩
  by_cases hA0 : A = 0
  · rw [hA0] at H
    exact br_t (hd.1 hA0) H
  · have q := hd.2 (by omega)
    exact pk_le (now + A) now (fun z => absurd z (by omega)) (fun _ => ⟨pk_in m 4 hm, by rw [q]; exact H⟩) q
theorem rl_BS {B S : Nat} (hB : B ≤ 30) (hS : S ≤ 10) : B * S ≤ 300 := Nat.mul_le_mul hB hS
theorem rl_roomOf {post : Int32 → St1 → Prop} {m now : Nat} {P : Nat → rl_M} {C : Nat → Prop} {u : St1} (hm : m < 4) (h : rl_Rel 4 u now P C) (H : ∀ r u', r = nI (rl_room (P m)) → rl_Rel 4 u' now P (fun j => j = m ∨ C j) → post r u') : wpX_roomOf post u (nI m) := by
  obtain ⟨f0, a1, a2, a3, a4, a5, a6, a7, a8, a9, a10, a11, a12, a13, a14⟩ := u
  unfold wpX_roomOf
  dsimp only
  refine rl_catchUp hm h (fun u' hu => ?_)
  have hu' := hu
  obtain ⟨g0, b1, b2, b3, b4, b5, b6, b7, b8, b9, b10, b11, b12, b13, b14⟩ := u'
  obtain ⟨rfl, hn, hr⟩ := hu
  have cl : (nI m).toNatClampNeg = m := nI_clamp (by omega)
  have hx := hr m hm
  rcases hP : P m with ⟨K, R, B, S, G, D, T, A, l⟩
  rw [hP] at hx H
  obtain ⟨ok, ⟨e1, e2, e3, e4, e5, e6⟩, ⟨t, f, e7, e8, hf, ht, eT, cT⟩, hd, ⟨h, k, e10, e11, e12, hri, hlo, hsu, el, cL⟩⟩ := hx
  obtain ⟨o1, o2, o3, o4, o5, o6, o7, o8, o9, o10, o11, o12⟩ := ok
  have tT := (cT (Or.inl rfl)).1
  have kL := cL (Or.inl rfl)
  have hBS := rl_BS o5 o7
  dsimp only
  rw [cl]
  refine ⟨pk_in m 4 hm, pk_eq K 0 (fun k0 => ⟨pk_in m 4 hm, H _ _ ?_ hu'⟩) (fun k0 => ⟨pk_in m 4 hm, pk_eq K 1 (fun k1 => ⟨pk_in m 4 hm, pk_in m 4 hm, H _ _ ?_ hu'⟩) (fun k1 => ?_) e1⟩) e1⟩
  · rw [e7, tT, show rl_room (K, R, B, S, G, D, T, A, l) = T from if_pos k0]
  · rw [e3, e12, kL, pk_sub o11, show rl_room (K, R, B, S, G, D, T, A, l) = B - rl_sum l from (if_neg k0).trans (if_pos k1)]
  · refine rl_base hm hn (by omega) hd ?_
    refine nm_r (show nI (now + A) - nI now = nI A by rw [pk_sub (by omega), Nat.add_sub_cancel_left]) ⟨pk_in m 4 hm, pk_in m 4 hm, nm_r (show b3 m * b4 m - nI A = nI (B * S - A) by rw [e3, e4, pk_mul, pk_sub o9]) ?_⟩
    refine pk_le 0 (B * S - A) (fun _ => ⟨pk_in m 4 hm, ?_⟩) (fun z => absurd z (by omega))
    refine pk_le S 0 (fun z => absurd z (by omega)) (fun _ => ⟨pk_in m 4 hm, by rw [e4]; exact nI_ne0 (by omega) (by omega), H _ _ ?_ hu'⟩) e4
    rw [e4, pk_div (by omega) (by omega) (by omega), show rl_room (K, R, B, S, G, D, T, A, l) = (B * S - A) / S from (if_neg k0).trans (if_neg k1)]
theorem rl_roomP {post : Int32 → St1 → Prop} {m now : Nat} {P : Nat → rl_M} {C : Nat → Prop} {u : St1} (hm : m < 4) (h : rl_Rel 4 u now P C) (H : ∀ u', rl_Rel 4 u' now P rl_F → post (nI (min 20 (rl_room (P m)))) u') : wpX_room post u (nI m) := by
  have hr30 : rl_room (P m) ≤ 30 := Nat.le_trans (rl_room_le (rl_ok h hm)) (rl_bu_le (rl_ok h hm))
  obtain ⟨f0, a1, a2, a3, a4, a5, a6, a7, a8, a9, a10, a11, a12, a13, a14⟩ := u
  unfold wpX_room
  dsimp only
  refine rl_bad hm (br_t rfl (rl_roomOf hm h (fun r u' er hu => ?_)))
  have H' := H u' (rl_wF hu)
  obtain ⟨g0, b1, b2, b3, b4, b5, b6, b7, b8, b9, b10, b11, b12, b13, b14⟩ := u'
  subst er
  refine pk_le 0 (rl_room (P m)) (fun _ => ?_) (fun z => absurd z (by omega))
  refine pk_le (rl_room (P m)) 20 (fun z => ?_) (fun z => ?_)
  · rw [Nat.min_eq_right z] at H'
    exact H'
  · rw [Nat.min_eq_left (by omega)] at H'
    exact H'
theorem rl_granted {post : Int32 → Prop} {m now : Nat} {P : Nat → rl_M} {C : Nat → Prop} {u : St1} (hm : m < 4) (h : rl_Rel 4 u now P C) (H : post (rl_gs (P m))) : wpX_granted post u (nI m) := by
  obtain ⟨f0, a1, a2, a3, a4, a5, a6, a7, a8, a9, a10, a11, a12, a13, a14⟩ := u
  have cl : (nI m).toNatClampNeg = m := nI_clamp (by omega)
  have hx := h.2.2 m hm
  rcases hP : P m with ⟨K, R, B, S, G, D, T, A, l⟩
  rw [hP] at hx H
  unfold wpX_granted
  dsimp only
  rw [cl, hx.2.1.2.2.2.2.1]
  exact rl_bad hm (br_t rfl ⟨pk_in m 4 hm, H⟩)
theorem rl_denied {post : Int32 → Prop} {m now : Nat} {P : Nat → rl_M} {C : Nat → Prop} {u : St1} (hm : m < 4) (h : rl_Rel 4 u now P C) (H : post (rl_dc (P m))) : wpX_denied post u (nI m) := by
  obtain ⟨f0, a1, a2, a3, a4, a5, a6, a7, a8, a9, a10, a11, a12, a13, a14⟩ := u
  have cl : (nI m).toNatClampNeg = m := nI_clamp (by omega)
  have hx := h.2.2 m hm
  rcases hP : P m with ⟨K, R, B, S, G, D, T, A, l⟩
  rw [hP] at hx H
  unfold wpX_denied
  dsimp only
  rw [cl, hx.2.1.2.2.2.2.2]
  exact rl_bad hm (br_t rfl ⟨pk_in m 4 hm, H⟩)
theorem rl_time {post : Int32 → Prop} {N now : Nat} {P : Nat → rl_M} {C : Nat → Prop} {u : St1} (h : rl_Rel N u now P C) (H : post (nI now)) : wpX_time post u := by
  obtain ⟨f0, a1, a2, a3, a4, a5, a6, a7, a8, a9, a10, a11, a12, a13, a14⟩ := u
  obtain ⟨rfl, _⟩ := h
  exact H
/-! waits -/
theorem rl_22 {post : Int32 → Prop} {m now S h len : Nat} (hm : m < 4) (hn : now ≤ 100000) (hS : S ≤ 10) {a1 a2 a3 a4 a5 a6 a7 a8 a9 a10 a11 a12 a13 a14 : Nat → Int32} (h4 : a4 m = nI S) (h10 : a10 m = nI (h % 32)) (h11 : a11 m = nI len) (hlen : len ≤ 31) :
    ∀ (l : List (Nat × Nat)) (n i o w : Nat) (x3 : Int32), i + l.length = len → l.length < n → rl_Ring a13 a14 (m * 32) (h + i) l → rl_LO now l → (∀ e, e ∈ l → now < e.1 + S) → rl_sum l ≤ 30 → o ≤ 60 → (o = 0 → x3 ≤ 0) → (0 < o → x3 = nI o) → post (nI (rl_lw S now l o w)) →
    wX_logWait_22 post (nI m) (nI now) a1 a2 a3 a4 a5 a6 a7 a8 a9 a10 a11 a12 a13 a14 n x3 (nI w) (nI i) := by
  intro l
  have cl : (nI m).toNatClampNeg = m := nI_clamp (by omega)
  induction l with
  | nil =>
    intro n i o w x3 hi hn' hr hl hv hs ho o0 o1 H
    rw [List.length_nil] at hi hn'
    obtain ⟨n, rfl⟩ : ∃ k, n = k + 1 := ⟨n - 1, by omega⟩
    refine And.intro (pk_in m 4 hm) ?_
    rw [cl]
    exact pk_le len i (fun _ => H) (fun z => absurd z (by omega)) h11
  | cons e l ih =>
    intro n i o w x3 hi hn' hr hl hv hs ho o0 o1 H
    rw [List.length_cons] at hi hn'
    rw [rl_sum_c] at hs
    obtain ⟨n, rfl⟩ : ∃ k, n = k + 1 := ⟨n - 1, by omega⟩
    have he := hv e (by simp)
    have he1 := hl.1
    have hq : m * 32 + (h + i) % 32 < 128 := by omega
    have ex : nI m * 32 + ((a10 m + nI i) &&& 31) = nI (m * 32 + (h + i) % 32) := by rw [h10, rl_hdi (by omega)]; exact rl_at m _
    have cx : (nI (m * 32 + (h + i) % 32)).toNatClampNeg = m * 32 + (h + i) % 32 := nI_clamp (by omega)
    refine And.intro (pk_in m 4 hm) ?_
    rw [cl]
    refine pk_le len i (fun z => absurd z (by omega)) (fun _ => ?_) h11
    by_cases oz : o = 0
    · rw [rl_lw_c1 oz] at H
      exact br_t (o0 oz) H
    · rw [rl_lw_c2 oz] at H
      have hx3 := o1 (by omega)
      refine pk_le o 0 (fun z => absurd z (by omega)) (fun _ => ⟨pk_in m 4 hm, nm_r ex ⟨pk_in _ 128 hq, ?_⟩⟩) hx3
      rw [cx, hr.1, hr.2.1, h4, hx3]
      refine nm_e ⟨pk_in _ 128 hq, pk_in m 4 hm, nm_r (show nI e.1 + nI S - nI now = nI (e.1 + S - now) by rw [nI_add, pk_sub (by omega)]) (nm_r (nI_1 i) ?_)⟩
      refine ih n (i + 1) (o - e.2) (e.1 + S - now) _ (by omega) (by omega) hr.2.2 hl.2.2.2 (fun f hf => hv f (List.mem_cons_of_mem _ hf)) (by omega) (by omega) (fun z => ?_) (fun z => ?_) H
      · exact rl_subn (by omega) (by omega)
      · exact pk_sub (by omega)
end
section
/-! part 4: waits, grants, asks, time, setting -/
theorem rl_sp3 {now A B S c : Nat} (h : B * S ≤ A + c * S) : nI (now + A) + (nI c - nI B) * nI S - nI now = nI (A + c * S - B * S) := by
  rw [← pk_sub h, ← nI_add, ← nI_add, ← pk_mul, ← pk_mul]
  grind
theorem rl_waitFor {post : Int32 → St1 → Prop} {m now c : Nat} {P : Nat → rl_M} {C : Nat → Prop} {u : St1} (hm : m < 4) (hc1 : 1 ≤ c) (hc : c ≤ 20) (h : rl_Rel 4 u now P C) (H : ∀ u', rl_Rel 4 u' now P rl_F → post (rl_ans now c (P m)) u') : wpX_waitFor post u (nI m) (nI c) := by
  have hrl := rl_room_le (rl_ok h hm)
  have hbl := rl_bu_le (rl_ok h hm)
  have H0 := H u (rl_wF h)
  obtain ⟨f0, a1, a2, a3, a4, a5, a6, a7, a8, a9, a10, a11, a12, a13, a14⟩ := u
  have cl : (nI m).toNatClampNeg = m := nI_clamp (by omega)
  have eB : a3 m = nI (rl_bu (P m)) := by
    have hx := h.2.2 m hm
    rcases hP : P m with ⟨K, R, B, S, G, D, T, A, l⟩
    rw [hP] at hx
    exact hx.2.1.2.2.1
  unfold wpX_waitFor
  dsimp only
  rw [cl]
  refine rl_bad hm (br_t rfl (rl_badCost hc1 hc (br_t rfl ⟨pk_in m 4 hm, ?_⟩)))
  refine pk_le c (rl_bu (P m)) (fun hcb => ?_) (fun z => ?_) rfl eB
  rotate_left
  · rw [show rl_ans now c (P m) = -4 from if_neg (by omega)] at H0
    exact H0
  rw [show rl_ans now c (P m) = nI (rl_wf now c (P m)) from if_pos hcb] at H
  refine rl_roomOf hm h (fun r u' er hu => ?_)
  have H1 := H u' (rl_wF hu)
  obtain ⟨g0, b1, b2, b3, b4, b5, b6, b7, b8, b9, b10, b11, b12, b13, b14⟩ := u'
  subst er
  dsimp only
  refine pk_lt (rl_room (P m)) c (fun hrc => ?_) (fun hrc => ?_)
  rotate_left
  · rw [show rl_wf now c (P m) = 0 from if_pos hrc] at H1
    exact H1
  rw [show rl_wf now c (P m) = rl_wait now c (P m) from if_neg (by omega)] at H1
  obtain ⟨rfl, hn, hr⟩ := hu
  have hx := hr m hm
  rcases hP : P m with ⟨K, R, B, S, G, D, T, A, l⟩
  rw [hP] at hx H1 hrc hcb
  obtain ⟨ok, ⟨e1, e2, e3, e4, e5, e6⟩, ⟨t, f, e7, e8, hf, ht, eT, cT⟩, hd, ⟨h, k, e10, e11, e12, hri, hlo, hsu, el, cL⟩⟩ := hx
  obtain ⟨o1, o2, o3, o4, o5, o6, o7, o8, o9, o10, o11, o12⟩ := ok
  have tT := (cT (Or.inl rfl)).1
  have kL := cL (Or.inl rfl)
  have hBS := rl_BS o5 o7
  have hcB : c ≤ B := hcb
  subst kL
  refine ⟨pk_in m 4 hm, pk_eq K 1 (fun k1 => ?_) (fun k1 => ⟨pk_in m 4 hm, pk_eq K 0 (fun k0 => ⟨pk_in m 4 hm, ?_⟩) (fun k0 => ⟨pk_in m 4 hm, pk_in m 4 hm, pk_in m 4 hm, ?_⟩) e1⟩) e1⟩
  · rw [show rl_wait now c (K, R, B, S, G, D, T, A, k) = rl_lw S now k (rl_sum k + c - B) 0 from if_pos k1] at H1
    rw [show rl_room (K, R, B, S, G, D, T, A, k) = B - rl_sum k from (if_neg (by omega)).trans (if_pos k1)] at hrc
    have hlen := rl_LO_len k hlo
    unfold wpX_logWait
    dsimp only
    rw [cl]
    refine ⟨pk_in m 4 hm, pk_in m 4 hm, nm_r (show b12 m + nI c - b3 m = nI (rl_sum k + c - B) by rw [e12, e3, nI_add, pk_sub (by omega)]) ⟨k.length + 1, ?_⟩⟩
    exact rl_22 hm hn o7 e4 e10 e11 (by omega) k (k.length + 1) 0 (rl_sum k + c - B) 0 _ (by omega) (by omega) hri hlo o12 (by omega) (by omega) (fun z => absurd z (by omega)) (fun _ => rfl) H1
  · rw [show rl_wait now c (K, R, B, S, G, D, T, A, k) = (c - T + R - 1) / R from (if_neg k1).trans (if_pos k0)] at H1
    rw [show rl_room (K, R, B, S, G, D, T, A, k) = T from if_pos k0] at hrc
    refine pk_le R 0 (fun z => absurd z (by omega)) (fun _ => ⟨pk_in m 4 hm, ?_⟩) e2
    unfold wX_waitFor_90
    rw [cl, e2, e7, tT, pk_sub (show T ≤ c by omega), nI_add, show nI (c - T + R) - 1 = nI (c - T + R - 1) from pk_sub (b := 1) (by omega), pk_div (by omega) (by omega) (by omega)]
    exact ⟨pk_in m 4 hm, nI_ne0 (by omega) (by omega), H1⟩
  · rw [show rl_wait now c (K, R, B, S, G, D, T, A, k) = A + c * S - B * S from (if_neg k1).trans (if_neg k0)] at H1
    rw [show rl_room (K, R, B, S, G, D, T, A, k) = (B * S - A) / S from (if_neg k0).trans (if_neg k1)] at hrc
    have hr' := (rl_sp o6).mp hrc
    have hq := rl_cS (S := S) hcB
    rw [hd.2 (by omega), e3, e4, rl_sp3 (by omega)]
    exact H1
/-! grants -/
theorem rl_grant {post : St1 → Prop} {m now c : Nat} {P : Nat → rl_M} {C : Nat → Prop} {u : St1} (hm : m < 4) (hc1 : 1 ≤ c) (h : rl_Rel 4 u now P C) (hC : C m) (hrc : c ≤ rl_room (P m)) (H : ∀ u', rl_Rel 4 u' now (rl_up P m (rl_gr now c (P m))) C → post u') : wpX_grant post u (nI m) (nI c) := by
  have okg := rl_OK_gr (rl_ok h hm) hc1 hrc
  obtain ⟨f0, a1, a2, a3, a4, a5, a6, a7, a8, a9, a10, a11, a12, a13, a14⟩ := u
  obtain ⟨rfl, hn, hr⟩ := h
  have cl : (nI m).toNatClampNeg = m := nI_clamp (by omega)
  have hx := hr m hm
  rcases hP : P m with ⟨K, R, B, S, G, D, T, A, l⟩
  rw [hP] at hx H hrc okg
  obtain ⟨ok, ⟨e1, e2, e3, e4, e5, e6⟩, ⟨t, f, e7, e8, hf, ht, eT, cT⟩, hd, ⟨h, k, e10, e11, e12, hri, hlo, hsu, el, cL⟩⟩ := hx
  obtain ⟨o1, o2, o3, o4, o5, o6, o7, o8, o9, o10, o11, o12⟩ := ok
  obtain ⟨tT, fN⟩ := cT hC
  have kL := cL hC
  have hBS := rl_BS o5 o7
  subst kL tT fN
  unfold wpX_grant
  dsimp only
  rw [cl]
  refine ⟨pk_in m 4 hm, pk_in m 4 hm, ?_⟩
  rintro _ rfl
  refine ⟨pk_in m 4 hm, pk_eq K 0 (fun k0 => ⟨pk_in m 4 hm, pk_in m 4 hm, ?_⟩) (fun k0 => ⟨pk_in m 4 hm, pk_eq K 1 (fun k1 => ⟨pk_in m 4 hm, pk_in m 4 hm, ?_⟩) (fun k1 => ?_) e1⟩) e1⟩
  · have eg : rl_gr f c (K, R, B, S, G, D, t, A, k) = (K, R, B, S, G + nI c, D, t - c, A, k) := if_pos k0
    rw [show rl_room (K, R, B, S, G, D, t, A, k) = t from if_pos k0] at hrc
    rw [eg] at H okg
    rintro _ rfl
    apply H
    refine ⟨rfl, hn, fun j hj4 => ?_⟩
    by_cases e : j = m
    · rw [e, rl_up_s, pk_us, pk_us]
      refine ⟨okg, ⟨e1, e2, e3, e4, by rw [e5], e6⟩, ⟨t - c, f, by rw [e7, pk_sub hrc], e8, Nat.le_refl _, by omega, rl_ms (by omega), fun _ => ⟨rfl, rfl⟩⟩, hd, ⟨h, k, e10, e11, e12, hri, hlo, hsu, el, fun _ => rfl⟩⟩
    · rw [rl_up_n e, pk_un e, pk_un e]
      exact hr j hj4
  · have eg : rl_gr f c (K, R, B, S, G, D, t, A, k) = (K, R, B, S, G + nI c, D, t, A, k ++ [(f, c)]) := (if_neg k0).trans (if_pos k1)
    rw [show rl_room (K, R, B, S, G, D, t, A, k) = B - rl_sum k from (if_neg k0).trans (if_pos k1)] at hrc
    rw [eg] at H okg
    have hlen := rl_LO_len k hlo
    have hq : m * 32 + (h + k.length) % 32 < 128 := by omega
    have cx : (nI (m * 32 + (h + k.length) % 32)).toNatClampNeg = m * 32 + (h + k.length) % 32 := nI_clamp (by omega)
    refine nm_r (show nI m * 32 + ((a10 m + a11 m) &&& 31) = nI (m * 32 + (h + k.length) % 32) by rw [e10, e11, rl_hdi (by omega)]; exact rl_at m _) ?_
    rw [cx]
    refine ⟨pk_in _ 128 hq, ?_⟩
    rintro _ rfl
    refine ⟨pk_in _ 128 hq, ?_⟩
    rintro _ rfl
    refine ⟨pk_in m 4 hm, pk_in m 4 hm, ?_⟩
    rintro _ rfl
    refine ⟨pk_in m 4 hm, pk_in m 4 hm, ?_⟩
    rintro _ rfl
    apply H
    refine ⟨rfl, hn, fun j hj4 => ?_⟩
    by_cases e : j = m
    · rw [e, rl_up_s, pk_us, pk_us, pk_us]
      refine ⟨okg, ⟨e1, e2, e3, e4, by rw [e5], e6⟩, ⟨t, f, e7, e8, Nat.le_refl _, by omega, rl_ms (by omega), fun _ => ⟨rfl, rfl⟩⟩, hd, ⟨h, k ++ [(f, c)], e10, ?_, ?_, ?_, rl_LO_app hc1 k hlo, ?_, ?_, fun _ => rfl⟩⟩
      · rw [e11, nI_1, List.length_append]
        rfl
      · rw [e12, nI_add, rl_sum_app]
      · refine rl_Ring_app k h (fun i hi => ?_) hri pk_us pk_us
        have hne : m * 32 + (h + i) % 32 ≠ m * 32 + (h + k.length) % 32 := by omega
        exact ⟨pk_un hne, pk_un hne⟩
      · rw [rl_sum_app]; omega
      · exact (rl_dw_id okg.2.2.2.2.2.2.2.2.2.2.2).symm
    · rw [rl_up_n e, pk_un e, pk_un e, pk_un e]
      have hx := hr j hj4
      rcases hPj : P j with ⟨K', R', B', S', G', D', T', A', l'⟩
      rw [hPj] at hx
      obtain ⟨z1, z2, z3, z4, ⟨h', k', w1, w2, w3, w4, w5⟩⟩ := hx
      refine ⟨z1, z2, z3, z4, ⟨h', k', w1, w2, w3, rl_Ring_fr (fun i hi => ?_) k' h' w4, w5⟩⟩
      have hne : j * 32 + i ≠ m * 32 + (h + k.length) % 32 := by omega
      exact ⟨pk_un hne, pk_un hne⟩
  · have eg : rl_gr f c (K, R, B, S, G, D, t, A, k) = (K, R, B, S, G + nI c, D, t, A + c * S, k) := (if_neg k0).trans (if_neg k1)
    rw [eg] at H okg
    refine rl_base hm hn (by omega) hd ?_
    refine ⟨pk_in m 4 hm, pk_in m 4 hm, ?_⟩
    rintro _ rfl
    apply H
    refine ⟨rfl, hn, fun j hj4 => ?_⟩
    by_cases e : j = m
    · rw [e, rl_up_s, pk_us, pk_us]
      have hcS : 1 * 1 ≤ c * S := Nat.mul_le_mul hc1 o6
      refine ⟨okg, ⟨e1, e2, e3, e4, by rw [e5], e6⟩, ⟨t, f, e7, e8, Nat.le_refl _, by omega, rl_ms (by omega), fun _ => ⟨rfl, rfl⟩⟩, ⟨fun z => absurd z (by omega), fun _ => ?_⟩, ⟨h, k, e10, e11, e12, hri, hlo, hsu, el, fun _ => rfl⟩⟩
      rw [e4, pk_mul, nI_add, Nat.add_assoc]
    · rw [rl_up_n e, pk_un e, pk_un e]
      exact hr j hj4
/-- one more denied -/
theorem rl_deny {m now : Nat} {P : Nat → rl_M} {C : Nat → Prop} {f0 : Int32} {a1 a2 a3 a4 a5 a6 a7 a8 a9 a10 a11 a12 a13 a14 : Nat → Int32} (h : rl_Rel 4 (f0, a1, a2, a3, a4, a5, a6, a7, a8, a9, a10, a11, a12, a13, a14) now P C) : rl_Rel 4 (f0, a1, a2, a3, a4, a5, upd a6 m (a6 m + 1), a7, a8, a9, a10, a11, a12, a13, a14) now (rl_up P m (rl_den 1 (P m))) C := by
  obtain ⟨rfl, hn, hr⟩ := h
  refine ⟨rfl, hn, fun j hj4 => ?_⟩
  by_cases e : j = m
  · have hx := hr j hj4
    rw [e] at hx ⊢
    rw [rl_up_s, pk_us]
    exact rl_MR_den hx
  · rw [rl_up_n e, pk_un e]
    exact hr j hj4
theorem rl_ask {post : Int32 → St1 → Prop} {m now c : Nat} {P : Nat → rl_M} {C : Nat → Prop} {u : St1} (hm : m < 4) (hc1 : 1 ≤ c) (hc : c ≤ 20) (h : rl_Rel 4 u now P C)
    (H1 : c ≤ rl_room (P m) → ∀ u', rl_Rel 4 u' now (rl_up P m (rl_gr now c (P m))) rl_F → post 1 u')
    (H0 : rl_room (P m) < c → ∀ u', rl_Rel 4 u' now (rl_up P m (rl_den 1 (P m))) rl_F → post 0 u') : wpX_ask post u (nI m) (nI c) := by
  have hrl := rl_room_le (rl_ok h hm)
  have hbl := rl_bu_le (rl_ok h hm)
  obtain ⟨f0, a1, a2, a3, a4, a5, a6, a7, a8, a9, a10, a11, a12, a13, a14⟩ := u
  have cl : (nI m).toNatClampNeg = m := nI_clamp (by omega)
  unfold wpX_ask
  dsimp only
  rw [cl]
  refine rl_bad hm (br_t rfl (rl_badCost hc1 hc (br_t rfl (rl_roomOf hm h (fun r u' er hu => ?_)))))
  obtain ⟨g0, b1, b2, b3, b4, b5, b6, b7, b8, b9, b10, b11, b12, b13, b14⟩ := u'
  subst er
  refine pk_le c (rl_room (P m)) (fun z => ?_) (fun z => ⟨pk_in m 4 hm, pk_in m 4 hm, nm_e (H0 z _ (rl_wF (rl_deny hu)))⟩)
  refine rl_grant hm hc1 hu (Or.inl rfl) z (fun u' hu' => ?_)
  have q := H1 z u' (rl_wF hu')
  obtain ⟨d0, d1, d2, d3, d4, d5, d6, d7, d8, d9, d10, d11, d12, d13, d14⟩ := u'
  exact q
end
section
/-! part 5: askAll, time, setting, making -/
/-- which meters a mask names -/
def rl_bit (x : Int32) (j : Nat) : Prop := ((x >>> (nI j &&& 31)) &&& 1) = 1
theorem rl_67 {post : Int32 → St1 → Prop} {x1 : Int32} {now c : Nat} {P : Nat → rl_M} {C : Nat → Prop} (hc1 : 1 ≤ c) (hC : ∀ j, j < 4 → rl_bit x1 j → C j) (hrc : ∀ j, j < 4 → rl_bit x1 j → c ≤ rl_room (P j)) (Q : Nat → rl_M)
    (hQ1 : ∀ j, j < 4 → rl_bit x1 j → Q j = rl_gr now c (P j)) (hQ0 : ∀ j, j < 4 → ¬ rl_bit x1 j → Q j = P j) (H : ∀ u', rl_Rel 4 u' now Q rl_F → post 1 u') :
    ∀ (n i : Nat) (f0 : Int32) (a1 a2 a3 a4 a5 a6 a7 a8 a9 a10 a11 a12 a13 a14 : Nat → Int32) (V : Nat → rl_M), i ≤ 4 → 4 - i < n → rl_Rel 4 (f0, a1, a2, a3, a4, a5, a6, a7, a8, a9, a10, a11, a12, a13, a14) now V C → (∀ j, j < i → V j = Q j) → (∀ j, i ≤ j → V j = P j) → wX_askAll_67 post x1 (nI c) 1 n (nI i) f0 a1 a2 a3 a4 a5 a6 a7 a8 a9 a10 a11 a12 a13 a14 := by
  intro n
  induction n with
  | zero => intro i f0 a1 a2 a3 a4 a5 a6 a7 a8 a9 a10 a11 a12 a13 a14 V h1 h2; exact absurd h2 (by omega)
  | succ n ih =>
    intro i f0 a1 a2 a3 a4 a5 a6 a7 a8 a9 a10 a11 a12 a13 a14 V h1 h2 h hV hW
    refine pk_le 4 i (fun z => ?_) (fun z => br_f (by decide) ?_)
    · refine br_f (by decide) (H _ (rl_wF (rl_cg (fun j hj => (hV j (by omega)).symm) h)))
    · have hnext : ∀ (g0 : Int32) (b1 b2 b3 b4 b5 b6 b7 b8 b9 b10 b11 b12 b13 b14 : Nat → Int32) (V' : Nat → rl_M), rl_Rel 4 (g0, b1, b2, b3, b4, b5, b6, b7, b8, b9, b10, b11, b12, b13, b14) now V' C → (∀ j, j < i → V' j = V j) → V' i = Q i → (∀ j, i < j → V' j = V j) → wX_askAll_67 post x1 (nI c) 1 n (nI i + 1) g0 b1 b2 b3 b4 b5 b6 b7 b8 b9 b10 b11 b12 b13 b14 := by
        intro g0 b1 b2 b3 b4 b5 b6 b7 b8 b9 b10 b11 b12 b13 b14 V' hb k1 k2 k3
        rw [nI_1]
        refine ih (i + 1) g0 b1 b2 b3 b4 b5 b6 b7 b8 b9 b10 b11 b12 b13 b14 V' (by omega) (by omega) hb (fun j hj => ?_) (fun j hj => by rw [k3 j (by omega)]; exact hW j (by omega))
        by_cases e : j = i
        · rw [e]; exact k2
        · rw [k1 j (by omega)]; exact hV j (by omega)
      refine br_c (fun hb => ?_) (fun hb => ?_)
      · refine rl_grant z hc1 h (hC i z hb) (by rw [hW i (Nat.le_refl _)]; exact hrc i z hb) (fun u' hu' => ?_)
        obtain ⟨g0, b1, b2, b3, b4, b5, b6, b7, b8, b9, b10, b11, b12, b13, b14⟩ := u'
        refine nm_e (hnext g0 b1 b2 b3 b4 b5 b6 b7 b8 b9 b10 b11 b12 b13 b14 _ hu' (fun j hj => rl_up_n (by omega)) ?_ (fun j hj => rl_up_n (by omega)))
        rw [rl_up_s, hW i (Nat.le_refl _), hQ1 i z hb]
      · exact nm_e (hnext f0 a1 a2 a3 a4 a5 a6 a7 a8 a9 a10 a11 a12 a13 a14 V h (fun j _ => rfl) (by rw [hW i (Nat.le_refl _), hQ0 i z hb]) (fun j _ => rfl))
theorem rl_15 {post : Int32 → St1 → Prop} {x1 : Int32} {now c : Nat} {P : Nat → rl_M} (hc1 : 1 ≤ c) (hc : c ≤ 20) (Q Q0 : Nat → rl_M)
    (hQ1 : ∀ j, j < 4 → rl_bit x1 j → Q j = rl_gr now c (P j)) (hQ0 : ∀ j, j < 4 → ¬ rl_bit x1 j → Q j = P j)
    (hD1 : ∀ j, j < 4 → rl_bit x1 j → rl_room (P j) < c → Q0 j = rl_den 1 (P j)) (hD0 : ∀ j, j < 4 → ¬ (rl_bit x1 j ∧ rl_room (P j) < c) → Q0 j = P j)
    (H1 : (∀ j, j < 4 → rl_bit x1 j → c ≤ rl_room (P j)) → ∀ u', rl_Rel 4 u' now Q rl_F → post 1 u') (H0 : (∃ j, j < 4 ∧ rl_bit x1 j ∧ rl_room (P j) < c) → ∀ u', rl_Rel 4 u' now Q0 rl_F → post 0 u') :
    ∀ (n i : Nat) (x3 f0 : Int32) (a1 a2 a3 a4 a5 a6 a7 a8 a9 a10 a11 a12 a13 a14 : Nat → Int32) (V : Nat → rl_M), i ≤ 4 → 4 - i < n → rl_Rel 4 (f0, a1, a2, a3, a4, a5, a6, a7, a8, a9, a10, a11, a12, a13, a14) now V (fun j => j < i ∧ rl_bit x1 j) → (∀ j, j < i → V j = Q0 j) → (∀ j, i ≤ j → V j = P j) →
      ((x3 = 1 ∧ ∀ j, j < i → rl_bit x1 j → c ≤ rl_room (P j)) ∨ (x3 = 0 ∧ ∃ j, j < i ∧ rl_bit x1 j ∧ rl_room (P j) < c)) → wX_askAll_15 post x1 (nI c) n x3 (nI i) f0 a1 a2 a3 a4 a5 a6 a7 a8 a9 a10 a11 a12 a13 a14 := by
  intro n
  induction n with
  | zero => intro i x3 f0 a1 a2 a3 a4 a5 a6 a7 a8 a9 a10 a11 a12 a13 a14 V h1 h2; exact absurd h2 (by omega)
  | succ n ih =>
    intro i x3 f0 a1 a2 a3 a4 a5 a6 a7 a8 a9 a10 a11 a12 a13 a14 V h1 h2 h hV hW hx
    refine pk_le 4 i (fun z => ?_) (fun z => ?_)
    · have i4 : i = 4 := by omega
      subst i4
      rcases hx with ⟨rfl, hall⟩ | ⟨rfl, hex⟩
      · have hVP : ∀ j, j < 4 → P j = V j := fun j hj => by
          rw [hV j hj, hD0 j hj (fun w => absurd (hall j hj w.1) (by omega))]
        exact ⟨5, rl_67 hc1 (fun j hj hb => ⟨hj, hb⟩) hall Q hQ1 hQ0 (H1 hall) 5 0 f0 a1 a2 a3 a4 a5 a6 a7 a8 a9 a10 a11 a12 a13 a14 P (by omega) (by omega) (rl_cg hVP h) (fun j hj => absurd hj (by omega)) (fun j _ => rfl)⟩
      · refine ⟨1, ?_⟩
        refine pk_le 4 0 (fun w => absurd w (by omega)) (fun _ => br_t rfl ?_)
        exact br_t rfl (H0 hex _ (rl_wF (rl_cg (fun j hj => (hV j hj).symm) h)))
    · have hnext : ∀ (y3 g0 : Int32) (b1 b2 b3 b4 b5 b6 b7 b8 b9 b10 b11 b12 b13 b14 : Nat → Int32) (V' : Nat → rl_M), rl_Rel 4 (g0, b1, b2, b3, b4, b5, b6, b7, b8, b9, b10, b11, b12, b13, b14) now V' (fun j => j < i + 1 ∧ rl_bit x1 j) → (∀ j, j < i → V' j = V j) → V' i = Q0 i → (∀ j, i < j → V' j = V j) → ((y3 = 1 ∧ ∀ j, j < i + 1 → rl_bit x1 j → c ≤ rl_room (P j)) ∨ (y3 = 0 ∧ ∃ j, j < i + 1 ∧ rl_bit x1 j ∧ rl_room (P j) < c)) → wX_askAll_15 post x1 (nI c) n y3 (nI i + 1) g0 b1 b2 b3 b4 b5 b6 b7 b8 b9 b10 b11 b12 b13 b14 := by
        intro y3 g0 b1 b2 b3 b4 b5 b6 b7 b8 b9 b10 b11 b12 b13 b14 V' hb k1 k2 k3 hy
        rw [nI_1]
        refine ih (i + 1) y3 g0 b1 b2 b3 b4 b5 b6 b7 b8 b9 b10 b11 b12 b13 b14 V' (by omega) (by omega) hb (fun j hj => ?_) (fun j hj => by rw [k3 j (by omega)]; exact hW j (by omega)) hy
        by_cases e : j = i
        · rw [e]; exact k2
        · rw [k1 j (by omega)]; exact hV j (by omega)
      refine br_c (fun hb => ?_) (fun hb => ?_)
      · refine rl_roomOf z h (fun r u' er hu => ?_)
        rw [hW i (Nat.le_refl _)] at er
        have hrl := rl_room_le (rl_ok hu z)
        have hbl := rl_bu_le (rl_ok hu z)
        rw [hW i (Nat.le_refl _)] at hrl hbl
        obtain ⟨g0, b1, b2, b3, b4, b5, b6, b7, b8, b9, b10, b11, b12, b13, b14⟩ := u'
        subst er
        have hu2 : rl_Rel 4 (g0, b1, b2, b3, b4, b5, b6, b7, b8, b9, b10, b11, b12, b13, b14) now V (fun j => j < i + 1 ∧ rl_bit x1 j) := rl_wk (fun j hj => by
          by_cases e : j = i
          · exact Or.inl e
          · exact Or.inr ⟨by have := hj.1; omega, hj.2⟩) hu
        refine pk_le c (rl_room (P i)) (fun w => ?_) (fun w => ?_)
        · refine nm_e (hnext x3 g0 b1 b2 b3 b4 b5 b6 b7 b8 b9 b10 b11 b12 b13 b14 V hu2 (fun j _ => rfl) (by rw [hW i (Nat.le_refl _), hD0 i z (fun w' => absurd w'.2 (by omega))]) (fun j _ => rfl) ?_)
          rcases hx with ⟨ex, hall⟩ | ⟨ex, j, hj, hj2⟩
          · refine Or.inl ⟨ex, fun j hj hbj => ?_⟩
            by_cases e : j = i
            · rw [e]; exact w
            · exact hall j (by omega) hbj
          · exact Or.inr ⟨ex, j, by omega, hj2⟩
        · have cl : (nI i).toNatClampNeg = i := nI_clamp (by omega)
          rw [cl]
          refine ⟨pk_in i 4 z, pk_in i 4 z, nm_e (nm_e (hnext 0 _ _ _ _ _ _ _ _ _ _ _ _ _ _ _ _ (rl_deny hu2) (fun j hj => rl_up_n (by omega)) ?_ (fun j hj => rl_up_n (by omega)) (Or.inr ⟨rfl, i, by omega, hb, w⟩)))⟩
          rw [rl_up_s, hW i (Nat.le_refl _), hD1 i z hb w]
      · have hw2 : rl_Rel 4 (f0, a1, a2, a3, a4, a5, a6, a7, a8, a9, a10, a11, a12, a13, a14) now V (fun j => j < i + 1 ∧ rl_bit x1 j) := rl_wk (fun j hj => by
          rcases Nat.lt_or_ge j i with w | w
          · exact ⟨w, hj.2⟩
          · have e : j = i := by have := hj.1; omega
            rw [e] at hj
            exact absurd hj.2 hb) h
        refine nm_e (hnext x3 f0 a1 a2 a3 a4 a5 a6 a7 a8 a9 a10 a11 a12 a13 a14 V hw2 (fun j _ => rfl) (by rw [hW i (Nat.le_refl _), hD0 i z (fun w' => hb w'.1)]) (fun j _ => rfl) ?_)
        rcases hx with ⟨ex, hall⟩ | ⟨ex, j, hj, hj2⟩
        · refine Or.inl ⟨ex, fun j hj hbj => ?_⟩
          by_cases e : j = i
          · rw [e] at hbj; exact absurd hbj hb
          · exact hall j (by omega) hbj
        · exact Or.inr ⟨ex, j, by omega, hj2⟩
theorem rl_askAll {post : Int32 → St1 → Prop} {x1 : Int32} {now c : Nat} {P : Nat → rl_M} {C : Nat → Prop} {u : St1} (hc1 : 1 ≤ c) (hc : c ≤ 20) (h : rl_Rel 4 u now P C) (Q Q0 : Nat → rl_M)
    (hQ1 : ∀ j, j < 4 → rl_bit x1 j → Q j = rl_gr now c (P j)) (hQ0 : ∀ j, j < 4 → ¬ rl_bit x1 j → Q j = P j)
    (hD1 : ∀ j, j < 4 → rl_bit x1 j → rl_room (P j) < c → Q0 j = rl_den 1 (P j)) (hD0 : ∀ j, j < 4 → ¬ (rl_bit x1 j ∧ rl_room (P j) < c) → Q0 j = P j)
    (H1 : (∀ j, j < 4 → rl_bit x1 j → c ≤ rl_room (P j)) → ∀ u', rl_Rel 4 u' now Q rl_F → post 1 u') (H0 : (∃ j, j < 4 ∧ rl_bit x1 j ∧ rl_room (P j) < c) → ∀ u', rl_Rel 4 u' now Q0 rl_F → post 0 u') : wpX_askAll post u x1 (nI c) := by
  obtain ⟨f0, a1, a2, a3, a4, a5, a6, a7, a8, a9, a10, a11, a12, a13, a14⟩ := u
  unfold wpX_askAll
  dsimp only
  refine rl_badCost hc1 hc (br_t rfl ⟨5, ?_⟩)
  exact rl_15 hc1 hc Q Q0 hQ1 hQ0 hD1 hD0 H1 H0 5 0 1 f0 a1 a2 a3 a4 a5 a6 a7 a8 a9 a10 a11 a12 a13 a14 P (by omega) (by omega) (rl_wk (fun j hj => absurd hj.1 (by omega)) h) (fun j hj => absurd hj (by omega)) (fun j _ => rfl) (Or.inl ⟨rfl, fun j hj => absurd hj (by omega)⟩)
/-! time -/
theorem rl_pass {post : Int32 → St1 → Prop} {now n : Nat} {P : Nat → rl_M} {C : Nat → Prop} {u : St1} (hn : n ≤ 1000) (hs : now + n ≤ 100000) (h : rl_Rel 4 u now P C) (H : ∀ u', rl_Rel 4 u' (now + n) (fun j => rl_tick (now + n) n (P j)) rl_F → post (nI (now + n)) u') : wpX_pass post u (nI n) := by
  obtain ⟨f0, a1, a2, a3, a4, a5, a6, a7, a8, a9, a10, a11, a12, a13, a14⟩ := u
  obtain ⟨rfl, hn', hr⟩ := h
  unfold wpX_pass
  dsimp only
  refine br_f (nI_pos (by omega)) (pk_le n 1000 (fun _ => pk_le (now + n) 100000 (fun _ => nm_r (nI_add now n) (H _ ⟨rfl, hs, fun j hj => rl_MR_tick hs (hr j hj)⟩)) (fun z => absurd z (by omega)) (nI_add now n)) (fun z => absurd z (by omega)))
theorem rl_passF {post : Int32 → St1 → Prop} {now n : Nat} {P : Nat → rl_M} {C : Nat → Prop} {u : St1} (hn : n ≤ 1000) (hs : 100000 < now + n) (h : rl_Rel 4 u now P C) (H : post (-4) u) : wpX_pass post u (nI n) := by
  obtain ⟨f0, a1, a2, a3, a4, a5, a6, a7, a8, a9, a10, a11, a12, a13, a14⟩ := u
  obtain ⟨rfl, hn', hr⟩ := h
  unfold wpX_pass
  dsimp only
  refine br_f (nI_pos (by omega)) (pk_le n 1000 (fun _ => pk_le (now + n) 100000 (fun z => absurd z (by omega)) (fun _ => H) (nI_add now n)) (fun z => absurd z (by omega)))
theorem rl_passB {post : Int32 → St1 → Prop} {p : Int32} {u : St1} (hp : p < 0 ∨ ¬ p ≤ 1000) (H : post (-3) u) : wpX_pass post u p := by
  obtain ⟨f0, a1, a2, a3, a4, a5, a6, a7, a8, a9, a10, a11, a12, a13, a14⟩ := u
  unfold wpX_pass
  dsimp only
  exact br_c (fun _ => H) (fun q => br_c (fun z => absurd z (hp.resolve_left q)) (fun _ => H))
/-! setting -/
theorem rl_start {post : St1 → Prop} {N N' m now K R B S : Nat} {P : Nat → rl_M} {C : Nat → Prop} {u : St1} (hm : m < 4) (hN : ∀ j, j < N' → j ≠ m → j < N) (h : rl_Rel N u now P C) (h1 : K ≤ 2) (h2 : 1 ≤ R) (h3 : R ≤ 5) (h4 : 1 ≤ B) (h5 : B ≤ 30) (h6 : 1 ≤ S) (h7 : S ≤ 10)
    (H : ∀ u', rl_Rel N' u' now (rl_up P m (rl_new K R B S)) C → post u') : wpX_start post u (nI m) (nI K) (nI R) (nI B) (nI S) := by
  obtain ⟨f0, a1, a2, a3, a4, a5, a6, a7, a8, a9, a10, a11, a12, a13, a14⟩ := u
  obtain ⟨rfl, hn, hr⟩ := h
  have cl : (nI m).toNatClampNeg = m := nI_clamp (by omega)
  unfold wpX_start
  dsimp only
  rw [cl]
  have v := pk_in (x := nI m) m 4 hm
  refine ⟨v, nm_e ⟨v, nm_e ⟨v, nm_e ⟨v, nm_e ⟨v, nm_e ⟨v, nm_e ⟨v, nm_e ⟨v, nm_e ⟨v, nm_e ⟨v, nm_e ⟨v, nm_e ⟨v, nm_e ?_⟩⟩⟩⟩⟩⟩⟩⟩⟩⟩⟩⟩
  apply H
  refine ⟨rfl, hn, fun j hj => ?_⟩
  by_cases e : j = m
  · rw [e, rl_up_s]
    simp only [pk_us]
    exact rl_MR_new h1 h2 h3 h4 h5 h6 h7 hn
  · rw [rl_up_n e]
    simp only [pk_un e]
    exact hr j (hN j hj e)
/-- what a call does to every state of one picture: the same answer, the same new picture -/
def rl_det (W : (Int32 → St1 → Prop) → St1 → Prop) (now : Nat) (P : Nat → rl_M) : Prop :=
  ∃ (r : Int32) (now' : Nat) (P' : Nat → rl_M), ∀ (post : Int32 → St1 → Prop) (u : St1) (C : Nat → Prop), rl_Rel 4 u now P C → (∀ u', rl_Rel 4 u' now' P' rl_F → post r u') → W post u
theorem rl_set_d (now : Nat) (P : Nat → rl_M) (p0 p1 p2 : Int32) : rl_det (fun post u => wpX_set post u p0 p1 p2) now P := by
  have bad : ∀ r : Int32, (∀ (post : Int32 → St1 → Prop) (u : St1), post r u → wpX_set post u p0 p1 p2) → rl_det (fun post u => wpX_set post u p0 p1 p2) now P :=
    fun r hr => ⟨r, now, P, fun post u C h H => hr post u (H u (rl_wF h))⟩
  have badm : (p0 < 0 ∨ nI 4 ≤ p0) → rl_det (fun post u => wpX_set post u p0 p1 p2) now P := fun hp => bad (-1) (fun post u H => by
    obtain ⟨f0, a1, a2, a3, a4, a5, a6, a7, a8, a9, a10, a11, a12, a13, a14⟩ := u
    unfold wpX_set
    dsimp only
    exact rl_badN hp (br_f (by decide) H))
  rcases pk_ix p0 (n := 4) (by decide) with hp | hp | ⟨m, hm, rfl⟩
  · exact badm (Or.inl hp)
  · exact badm (Or.inr hp)
  by_cases k0 : p1 < 0
  · exact bad (-2) (fun post u H => by
      obtain ⟨f0, a1, a2, a3, a4, a5, a6, a7, a8, a9, a10, a11, a12, a13, a14⟩ := u
      unfold wpX_set
      dsimp only
      exact rl_bad hm (br_t rfl (br_t k0 H)))
  by_cases k2 : p1 ≤ 2
  rotate_left
  · exact bad (-2) (fun post u H => by
      obtain ⟨f0, a1, a2, a3, a4, a5, a6, a7, a8, a9, a10, a11, a12, a13, a14⟩ := u
      unfold wpX_set
      dsimp only
      exact rl_bad hm (br_t rfl (br_f k0 (br_f k2 H))))
  obtain ⟨K, hK, rfl⟩ := nI_of2 (M := 2) (n := 2) (by decide) k0 k2
  obtain ⟨R, hR, eR⟩ := pk_andE p2 (m := 7) 3 (by decide)
  obtain ⟨B, hB, eB⟩ := pk_andE (p2 >>> ((3 : Int32) &&& 31)) (m := 31) 5 (by decide)
  obtain ⟨S, hS, eS⟩ := pk_andE (p2 >>> ((8 : Int32) &&& 31)) (m := 15) 4 (by decide)
  have go : ∀ (post : Int32 → St1 → Prop) (u : St1), (¬ (1 ≤ R ∧ R ≤ 5 ∧ 1 ≤ B ∧ B ≤ 30 ∧ 1 ≤ S ∧ S ≤ 10) → post (-3) u) → (1 ≤ R ∧ R ≤ 5 ∧ 1 ≤ B ∧ B ≤ 30 ∧ 1 ≤ S ∧ S ≤ 10 → wpX_start (fun u => post 0 u) u (nI m) (nI K) (nI R) (nI B) (nI S)) → wpX_set post u (nI m) (nI K) p2 := by
    intro post u Hb Hg
    obtain ⟨f0, a1, a2, a3, a4, a5, a6, a7, a8, a9, a10, a11, a12, a13, a14⟩ := u
    unfold wpX_set
    dsimp only
    refine rl_bad hm (br_t rfl (br_f k0 (br_t k2 (nm_r eR (nm_r eB (nm_r eS ?_))))))
    refine pk_lt R 1 (fun z => Hb (by omega)) (fun z1 => pk_lt 5 R (fun z => Hb (by omega)) (fun z2 => pk_lt B 1 (fun z => Hb (by omega)) (fun z3 => pk_lt 30 B (fun z => Hb (by omega)) (fun z4 => pk_lt S 1 (fun z => Hb (by omega)) (fun z5 => pk_le S 10 (fun z6 => ?_) (fun z => Hb (by omega)))))))
    exact Hg ⟨z1, z2, z3, z4, z5, z6⟩
  by_cases hg : 1 ≤ R ∧ R ≤ 5 ∧ 1 ≤ B ∧ B ≤ 30 ∧ 1 ≤ S ∧ S ≤ 10
  · refine ⟨0, now, rl_up P m (rl_new K R B S), fun post u C h H => go post u (fun z => absurd hg z) (fun _ => ?_)⟩
    exact rl_start hm (fun j hj _ => hj) h hK hg.1 hg.2.1 hg.2.2.1 hg.2.2.2.1 hg.2.2.2.2.1 hg.2.2.2.2.2 (fun u' hu' => H u' (rl_wF hu'))
  · exact bad (-3) (fun post u H => go post u (fun _ => H) (fun z => absurd z hg))
/-! making -/
abbrev rl_P0 : Nat → rl_M := fun _ => rl_new 0 1 10 1
theorem rl_108 {post : St1 → Prop} {mc ms kc ks : Nat} (H : ∀ u' : St1, rl_Rel 4 u' 0 rl_P0 rl_F → post u') :
    ∀ (n i : Nat) (f0 : Int32) (a1 a2 a3 a4 a5 a6 a7 a8 a9 a10 a11 a12 a13 a14 : Nat → Int32), i ≤ 4 → 4 - i < n → rl_Rel i (f0, a1, a2, a3, a4, a5, a6, a7, a8, a9, a10, a11, a12, a13, a14) 0 rl_P0 rl_F → wX_init_108 post mc ms kc ks n (nI i) f0 a1 a2 a3 a4 a5 a6 a7 a8 a9 a10 a11 a12 a13 a14 := by
  intro n
  induction n with
  | zero => intro i f0 a1 a2 a3 a4 a5 a6 a7 a8 a9 a10 a11 a12 a13 a14 h1 h2; exact absurd h2 (by omega)
  | succ n ih =>
    intro i f0 a1 a2 a3 a4 a5 a6 a7 a8 a9 a10 a11 a12 a13 a14 h1 h2 h
    refine pk_le 4 i (fun z => ?_) (fun z => ?_)
    · have i4 : i = 4 := by omega
      subst i4
      exact H _ h
    · refine rl_start (N' := i + 1) (K := 0) (R := 1) (B := 10) (S := 1) z (fun j hj hne => by omega) h (by omega) (by omega) (by omega) (by omega) (by omega) (by omega) (by omega) (fun u' hu' => ?_)
      obtain ⟨g0, b1, b2, b3, b4, b5, b6, b7, b8, b9, b10, b11, b12, b13, b14⟩ := u'
      refine nm_r (nI_1 i) (ih (i + 1) g0 b1 b2 b3 b4 b5 b6 b7 b8 b9 b10 b11 b12 b13 b14 (by omega) (by omega) (rl_cg (fun j hj => ?_) hu'))
      by_cases e : j = i
      · rw [e, rl_up_s]
      · rw [rl_up_n e]
theorem rl_init {post : St1 → Prop} (H : ∀ u' : St1, rl_Rel 4 u' 0 rl_P0 rl_F → post u') : wpX_init post 14 304 0 := by
  unfold wpX_init
  refine ⟨by decide, by decide, by decide, by decide, by decide, by decide, by decide, by decide, by decide, by decide, by decide, by decide, by decide, by decide, by decide, by decide, by decide, by decide, by decide, by decide, by decide, by decide, by decide, by decide, by decide, by decide, by decide, by decide, 5, ?_⟩
  exact rl_108 H 5 0 0 _ _ _ _ _ _ _ _ _ _ _ _ _ _ (by omega) (by omega) ⟨rfl, by omega, fun j hj => absurd hj (by omega)⟩
end
section
/-! part 6: same, and the law's end -/
theorem rl_s50 {post : Int32 → St2 → Prop} {J2 : Int32 → Int32 → (Nat → Int32) → (Nat → Int32) → (Nat → Int32) → (Nat → Int32) → (Nat → Int32) → (Nat → Int32) → (Nat → Int32) → (Nat → Int32) → (Nat → Int32) → (Nat → Int32) → (Nat → Int32) → (Nat → Int32) → (Nat → Int32) → (Nat → Int32) → Int32 → (Nat → Int32) → (Nat → Int32) → (Nat → Int32) → (Nat → Int32) → (Nat → Int32) → (Nat → Int32) → (Nat → Int32) → (Nat → Int32) → (Nat → Int32) → (Nat → Int32) → (Nat → Int32) → (Nat → Int32) → (Nat → Int32) → (Nat → Int32) → Prop} {m now : Nat} {P : Nat → rl_M} (hm : m < 4)
    (hJ : ∀ (f0 : Int32) (a1 a2 a3 a4 a5 a6 a7 a8 a9 a10 a11 a12 a13 a14 : Nat → Int32) (g0 : Int32) (b1 b2 b3 b4 b5 b6 b7 b8 b9 b10 b11 b12 b13 b14 : Nat → Int32), rl_Rel 4 (f0, a1, a2, a3, a4, a5, a6, a7, a8, a9, a10, a11, a12, a13, a14) now P rl_F → rl_Rel 4 (g0, b1, b2, b3, b4, b5, b6, b7, b8, b9, b10, b11, b12, b13, b14) now P rl_F → J2 (nI (m + 1)) f0 a1 a2 a3 a4 a5 a6 a7 a8 a9 a10 a11 a12 a13 a14 g0 b1 b2 b3 b4 b5 b6 b7 b8 b9 b10 b11 b12 b13 b14) :
    ∀ (n i : Nat) (f0 : Int32) (a1 a2 a3 a4 a5 a6 a7 a8 a9 a10 a11 a12 a13 a14 : Nat → Int32) (g0 : Int32) (b1 b2 b3 b4 b5 b6 b7 b8 b9 b10 b11 b12 b13 b14 : Nat → Int32), 1 ≤ i → i ≤ 21 → 21 - i < n → rl_Rel 4 (f0, a1, a2, a3, a4, a5, a6, a7, a8, a9, a10, a11, a12, a13, a14) now P rl_F → rl_Rel 4 (g0, b1, b2, b3, b4, b5, b6, b7, b8, b9, b10, b11, b12, b13, b14) now P rl_F → wL_same_50 post J2 (nI m) n (nI i) f0 a1 a2 a3 a4 a5 a6 a7 a8 a9 a10 a11 a12 a13 a14 g0 b1 b2 b3 b4 b5 b6 b7 b8 b9 b10 b11 b12 b13 b14 := by
  intro n
  induction n with
  | zero => intro i f0 a1 a2 a3 a4 a5 a6 a7 a8 a9 a10 a11 a12 a13 a14 g0 b1 b2 b3 b4 b5 b6 b7 b8 b9 b10 b11 b12 b13 b14 h0 h1 h2; exact absurd h2 (by omega)
  | succ n ih =>
    intro i f0 a1 a2 a3 a4 a5 a6 a7 a8 a9 a10 a11 a12 a13 a14 g0 b1 b2 b3 b4 b5 b6 b7 b8 b9 b10 b11 b12 b13 b14 h0 h1 h2 hc hd
    refine pk_le 21 i (fun z => nm_r (nI_1 m) (hJ f0 a1 a2 a3 a4 a5 a6 a7 a8 a9 a10 a11 a12 a13 a14 g0 b1 b2 b3 b4 b5 b6 b7 b8 b9 b10 b11 b12 b13 b14 hc hd)) (fun z => ?_)
    refine rl_waitFor hm h0 (by omega) hc (fun u' hu => ?_)
    obtain ⟨f1, c1, c2, c3, c4, c5, c6, c7, c8, c9, c10, c11, c12, c13, c14⟩ := u'
    refine rl_waitFor hm h0 (by omega) hd (fun u' hv => ?_)
    obtain ⟨g1, d1, d2, d3, d4, d5, d6, d7, d8, d9, d10, d11, d12, d13, d14⟩ := u'
    exact br_t rfl (nm_r (nI_1 i) (ih (i + 1) f1 c1 c2 c3 c4 c5 c6 c7 c8 c9 c10 c11 c12 c13 c14 g1 d1 d2 d3 d4 d5 d6 d7 d8 d9 d10 d11 d12 d13 d14 (by omega) (by omega) (by omega) hu hv))
theorem rl_s2 {post : Int32 → St2 → Prop} {now : Nat} {P : Nat → rl_M}
    (H : ∀ (f0 : Int32) (a1 a2 a3 a4 a5 a6 a7 a8 a9 a10 a11 a12 a13 a14 : Nat → Int32) (g0 : Int32) (b1 b2 b3 b4 b5 b6 b7 b8 b9 b10 b11 b12 b13 b14 : Nat → Int32), rl_Rel 4 (f0, a1, a2, a3, a4, a5, a6, a7, a8, a9, a10, a11, a12, a13, a14) now P rl_F → rl_Rel 4 (g0, b1, b2, b3, b4, b5, b6, b7, b8, b9, b10, b11, b12, b13, b14) now P rl_F → post 1 (f0, a1, a2, a3, a4, a5, a6, a7, a8, a9, a10, a11, a12, a13, a14, g0, b1, b2, b3, b4, b5, b6, b7, b8, b9, b10, b11, b12, b13, b14)) :
    ∀ (n i : Nat) (f0 : Int32) (a1 a2 a3 a4 a5 a6 a7 a8 a9 a10 a11 a12 a13 a14 : Nat → Int32) (g0 : Int32) (b1 b2 b3 b4 b5 b6 b7 b8 b9 b10 b11 b12 b13 b14 : Nat → Int32), i ≤ 4 → 4 - i < n → rl_Rel 4 (f0, a1, a2, a3, a4, a5, a6, a7, a8, a9, a10, a11, a12, a13, a14) now P rl_F → rl_Rel 4 (g0, b1, b2, b3, b4, b5, b6, b7, b8, b9, b10, b11, b12, b13, b14) now P rl_F → wL_same_2 post n (nI i) f0 a1 a2 a3 a4 a5 a6 a7 a8 a9 a10 a11 a12 a13 a14 g0 b1 b2 b3 b4 b5 b6 b7 b8 b9 b10 b11 b12 b13 b14 := by
  intro n
  induction n with
  | zero => intro i f0 a1 a2 a3 a4 a5 a6 a7 a8 a9 a10 a11 a12 a13 a14 g0 b1 b2 b3 b4 b5 b6 b7 b8 b9 b10 b11 b12 b13 b14 h1 h2; exact absurd h2 (by omega)
  | succ n ih =>
    intro i f0 a1 a2 a3 a4 a5 a6 a7 a8 a9 a10 a11 a12 a13 a14 g0 b1 b2 b3 b4 b5 b6 b7 b8 b9 b10 b11 b12 b13 b14 h1 h2 hc hd
    refine pk_le 4 i (fun z => rl_time hc (rl_time hd (br_t rfl (H f0 a1 a2 a3 a4 a5 a6 a7 a8 a9 a10 a11 a12 a13 a14 g0 b1 b2 b3 b4 b5 b6 b7 b8 b9 b10 b11 b12 b13 b14 hc hd)))) (fun z => ?_)
    refine rl_roomP z hc (fun u' hu => ?_)
    obtain ⟨f1, c1, c2, c3, c4, c5, c6, c7, c8, c9, c10, c11, c12, c13, c14⟩ := u'
    refine rl_roomP z hd (fun u' hv => ?_)
    obtain ⟨g1, d1, d2, d3, d4, d5, d6, d7, d8, d9, d10, d11, d12, d13, d14⟩ := u'
    refine br_t rfl (rl_granted z hu (rl_granted z hv (br_t rfl (rl_denied z hu (rl_denied z hv (br_t rfl ⟨21, ?_⟩))))))
    exact rl_s50 z (fun f0 a1 a2 a3 a4 a5 a6 a7 a8 a9 a10 a11 a12 a13 a14 g0 b1 b2 b3 b4 b5 b6 b7 b8 b9 b10 b11 b12 b13 b14 hc hd => ih (i + 1) f0 a1 a2 a3 a4 a5 a6 a7 a8 a9 a10 a11 a12 a13 a14 g0 b1 b2 b3 b4 b5 b6 b7 b8 b9 b10 b11 b12 b13 b14 (by omega) (by omega) hc hd) 21 1 f1 c1 c2 c3 c4 c5 c6 c7 c8 c9 c10 c11 c12 c13 c14 g1 d1 d2 d3 d4 d5 d6 d7 d8 d9 d10 d11 d12 d13 d14 (by omega) (by omega) (by omega) hu hv
theorem rl_same {post : Int32 → St2 → Prop} {now : Nat} {P : Nat → rl_M} {f0 : Int32} {a1 a2 a3 a4 a5 a6 a7 a8 a9 a10 a11 a12 a13 a14 : Nat → Int32} {g0 : Int32} {b1 b2 b3 b4 b5 b6 b7 b8 b9 b10 b11 b12 b13 b14 : Nat → Int32} (hc : rl_Rel 4 (f0, a1, a2, a3, a4, a5, a6, a7, a8, a9, a10, a11, a12, a13, a14) now P rl_F) (hd : rl_Rel 4 (g0, b1, b2, b3, b4, b5, b6, b7, b8, b9, b10, b11, b12, b13, b14) now P rl_F)
    (H : ∀ (f0 : Int32) (a1 a2 a3 a4 a5 a6 a7 a8 a9 a10 a11 a12 a13 a14 : Nat → Int32) (g0 : Int32) (b1 b2 b3 b4 b5 b6 b7 b8 b9 b10 b11 b12 b13 b14 : Nat → Int32), rl_Rel 4 (f0, a1, a2, a3, a4, a5, a6, a7, a8, a9, a10, a11, a12, a13, a14) now P rl_F → rl_Rel 4 (g0, b1, b2, b3, b4, b5, b6, b7, b8, b9, b10, b11, b12, b13, b14) now P rl_F → post 1 (f0, a1, a2, a3, a4, a5, a6, a7, a8, a9, a10, a11, a12, a13, a14, g0, b1, b2, b3, b4, b5, b6, b7, b8, b9, b10, b11, b12, b13, b14)) : wpL_same post (f0, a1, a2, a3, a4, a5, a6, a7, a8, a9, a10, a11, a12, a13, a14, g0, b1, b2, b3, b4, b5, b6, b7, b8, b9, b10, b11, b12, b13, b14) := by
  unfold wpL_same
  exact ⟨5, rl_s2 H 5 0 f0 a1 a2 a3 a4 a5 a6 a7 a8 a9 a10 a11 a12 a13 a14 g0 b1 b2 b3 b4 b5 b6 b7 b8 b9 b10 b11 b12 b13 b14 (by omega) (by omega) hc hd⟩
/-! the last loop: time runs full -/
theorem rl_463 {L kc ks : Nat} {xs : Nat → Int32} :
    ∀ (n i now : Nat) (P : Nat → rl_M) (f0 : Int32) (a1 a2 a3 a4 a5 a6 a7 a8 a9 a10 a11 a12 a13 a14 : Nat → Int32), i ≤ 110 → 110 - i < n → rl_Rel 4 (f0, a1, a2, a3, a4, a5, a6, a7, a8, a9, a10, a11, a12, a13, a14) now P rl_F → (1000 * i ≤ now ∨ 99000 < now) → wL_law_463 (fun r => r = 1) L xs kc ks n (nI i) f0 a1 a2 a3 a4 a5 a6 a7 a8 a9 a10 a11 a12 a13 a14 := by
  intro n
  induction n with
  | zero => intro i now P f0 a1 a2 a3 a4 a5 a6 a7 a8 a9 a10 a11 a12 a13 a14 h1 h2; exact absurd h2 (by omega)
  | succ n ih =>
    intro i now P f0 a1 a2 a3 a4 a5 a6 a7 a8 a9 a10 a11 a12 a13 a14 h1 h2 h hw
    have hn := rl_now h
    refine pk_le 110 i (fun z => ?_) (fun z => ?_)
    · refine rl_time h (nm_r (show (100000 : Int32) - nI now = nI (100000 - now) from pk_sub (a := 100000) hn) ?_)
      refine pk_le 1000 (100000 - now) (fun w => absurd w (by omega)) (fun w => br_f (nI_pos (by omega)) ?_)
      rw [nI_1]
      refine rl_passF (by omega) (by omega) h (br_t rfl ?_)
      refine rl_pass (by omega) (by omega) h (fun u' hu => ?_)
      obtain ⟨f1, b1, b2, b3, b4, b5, b6, b7, b8, b9, b10, b11, b12, b13, b14⟩ := u'
      rw [show now + (100000 - now) = 100000 by omega] at hu ⊢
      refine br_t rfl ?_
      refine rl_passF (n := 1) (by omega) (by omega) hu (br_t rfl ?_)
      refine rl_pass (n := 0) (by omega) (by omega) hu (fun u' hu => ?_)
      obtain ⟨f2, c1, c2, c3, c4, c5, c6, c7, c8, c9, c10, c11, c12, c13, c14⟩ := u'
      exact br_t rfl rfl
    · rcases Nat.lt_or_ge 100000 (now + 1000) with w | w
      · exact rl_passF (n := 1000) (by omega) w h (nm_r (nI_1 i) (ih (i + 1) now P f0 a1 a2 a3 a4 a5 a6 a7 a8 a9 a10 a11 a12 a13 a14 (by omega) (by omega) h (by omega)))
      · refine rl_pass (n := 1000) (by omega) w h (fun u' hu => ?_)
        obtain ⟨f1, b1, b2, b3, b4, b5, b6, b7, b8, b9, b10, b11, b12, b13, b14⟩ := u'
        exact nm_r (nI_1 i) (ih (i + 1) (now + 1000) _ f1 b1 b2 b3 b4 b5 b6 b7 b8 b9 b10 b11 b12 b13 b14 (by omega) (by omega) hu (by omega))
/-! the waiting loop: c's picture after e units -/
def rl_V (now m : Nat) (P : Nat → rl_M) (e : Nat) : Nat → rl_M := rl_up (fun j => rl_tick (now + e) e (P j)) m (rl_den (nI e) (rl_tick (now + e) e (P m)))
theorem rl_V0 {now m : Nat} {P : Nat → rl_M} (hP : ∀ j, j < 4 → rl_OK now (P j)) : ∀ j, j < 4 → rl_V now m P 0 j = P j := by
  intro j hj
  by_cases e : j = m
  · rw [e] at hj ⊢
    show rl_up _ m (rl_den (nI 0) (rl_tick (now + 0) 0 (P m))) m = P m
    rw [rl_up_s, rl_d0]
    exact rl_t0 (hP m hj)
  · show rl_up _ m _ j = P j
    rw [rl_up_n e]
    exact rl_t0 (hP j hj)
theorem rl_V1 {now m i : Nat} {P : Nat → rl_M} : ∀ j, rl_V now m P (i + 1) j = rl_tick (now + i + 1) 1 (rl_up (rl_V now m P i) m (rl_den 1 (rl_V now m P i m)) j) := by
  intro j
  by_cases e : j = m
  · rw [e, rl_up_s]
    show rl_up _ m _ m = rl_tick _ 1 (rl_den 1 (rl_up _ m _ m))
    rw [rl_up_s, rl_up_s, rl_dd, rl_td, rl_tt]
    rfl
  · rw [rl_up_n e]
    show rl_up _ m _ j = rl_tick _ 1 (rl_up _ m _ j)
    rw [rl_up_n e, rl_up_n e, rl_tt]
    rfl
theorem rl_Vm {now m e : Nat} {P : Nat → rl_M} : rl_V now m P e m = rl_den (nI e) (rl_tick (now + e) e (P m)) := rl_up_s
theorem rl_329 {L kc ks : Nat} {xs : Nat → Int32} {m c now w : Nat} {P : Nat → rl_M} (hm : m < 4) (hc1 : 1 ≤ c) (hc : c ≤ 20) (hB : c ≤ rl_bu (P m)) (hok : rl_OK now (P m)) (hw : w = rl_wf now c (P m)) (hnw : now + w ≤ 100000) {g0 : Int32} {b1 b2 b3 b4 b5 b6 b7 b8 b9 b10 b11 b12 b13 b14 : Nat → Int32} (hd : rl_Rel 4 (g0, b1, b2, b3, b4, b5, b6, b7, b8, b9, b10, b11, b12, b13, b14) now P rl_F) :
    ∀ (n i : Nat) (f0 : Int32) (a1 a2 a3 a4 a5 a6 a7 a8 a9 a10 a11 a12 a13 a14 : Nat → Int32), i ≤ 301 → 301 - i < n → rl_Rel 4 (f0, a1, a2, a3, a4, a5, a6, a7, a8, a9, a10, a11, a12, a13, a14) (now + min i w) (rl_V now m P (min i w)) rl_F → wL_law_329 (fun r => r = 1) L xs (nI m) (nI c) (nI w) kc ks n (nI i) f0 a1 a2 a3 a4 a5 a6 a7 a8 a9 a10 a11 a12 a13 a14 g0 b1 b2 b3 b4 b5 b6 b7 b8 b9 b10 b11 b12 b13 b14 := by
  have hw3 : w ≤ 300 := by rw [hw]; exact rl_wf_le hok hc1 hB
  intro n
  induction n with
  | zero => intro i f0 a1 a2 a3 a4 a5 a6 a7 a8 a9 a10 a11 a12 a13 a14 h1 h2; exact absurd h2 (by omega)
  | succ n ih =>
    intro i f0 a1 a2 a3 a4 a5 a6 a7 a8 a9 a10 a11 a12 a13 a14 h1 h2 h
    refine pk_le 301 i (fun z => ?_) (fun z => ?_)
    · rw [show min i w = w by omega] at h
      have hro : c ≤ rl_room (rl_tick (now + w) w (P m)) := by rw [hw]; exact rl_wf_3 hok hc1 hB
      refine rl_ask hm hc1 hc h (fun _ u' hu => ?_) (fun q => ?_)
      rotate_left
      · rw [rl_Vm, rl_room_den] at q
        exact absurd q (by omega)
      obtain ⟨f1, c1, c2, c3, c4, c5, c6, c7, c8, c9, c10, c11, c12, c13, c14⟩ := u'
      refine br_t rfl (rl_denied hm hu (rl_denied hm hd (br_t ?_ ?_)))
      · rw [rl_up_s, rl_Vm, rl_dc_gr, rl_dc_den, rl_dc_tick]
      · refine rl_pass (by omega) hnw hd (fun u' hv => ?_)
        obtain ⟨g1, d1, d2, d3, d4, d5, d6, d7, d8, d9, d10, d11, d12, d13, d14⟩ := u'
        refine rl_ask hm hc1 hc hv (fun _ u' hy => ?_) (fun q => absurd q (by omega))
        obtain ⟨g2, e1, e2, e3, e4, e5, e6, e7, e8, e9, e10, e11, e12, e13, e14⟩ := u'
        refine br_t rfl (rl_roomP hm hu (fun u' hu2 => ?_))
        obtain ⟨f2, k1, k2, k3, k4, k5, k6, k7, k8, k9, k10, k11, k12, k13, k14⟩ := u'
        refine rl_roomP hm hy (fun u' hy2 => ?_)
        obtain ⟨g3, l1, l2, l3, l4, l5, l6, l7, l8, l9, l10, l11, l12, l13, l14⟩ := u'
        refine br_t ?_ (rl_granted hm hu2 (rl_granted hm hy2 (br_t ?_ ⟨111, ?_⟩)))
        · rw [rl_up_s, rl_up_s, rl_Vm, rl_gr_den, rl_room_den]
        · rw [rl_up_s, rl_up_s, rl_Vm, rl_gr_den, rl_gs_den]
        · exact rl_463 111 0 _ _ f2 k1 k2 k3 k4 k5 k6 k7 k8 k9 k10 k11 k12 k13 k14 (by omega) (by omega) hu2 (by omega)
    · refine pk_le w i (fun q => ?_) (fun q => ?_)
      · refine nm_r (nI_1 i) (ih (i + 1) f0 a1 a2 a3 a4 a5 a6 a7 a8 a9 a10 a11 a12 a13 a14 (by omega) (by omega) ?_)
        rw [show min (i + 1) w = min i w by omega]
        exact h
      · rw [show min i w = i by omega] at h
        have hro := rl_wf_2 hok hc1 hB (i := i) (by omega)
        refine rl_ask hm hc1 hc h (fun q => ?_) (fun _ u' hu => ?_)
        · rw [rl_Vm, rl_room_den] at q
          exact absurd q (by omega)
        obtain ⟨f1, c1, c2, c3, c4, c5, c6, c7, c8, c9, c10, c11, c12, c13, c14⟩ := u'
        refine br_t rfl (rl_waitFor hm hc1 hc hu (fun u' hu2 => ?_))
        obtain ⟨f2, d1, d2, d3, d4, d5, d6, d7, d8, d9, d10, d11, d12, d13, d14⟩ := u'
        have ea : rl_ans (now + i) c (rl_up (rl_V now m P i) m (rl_den 1 (rl_V now m P i m)) m) = nI w - nI i := by
          rw [rl_up_s, rl_ans_den, rl_Vm, rl_ans_den, pk_sub (by omega)]
          have e1 : rl_ans (now + i) c (rl_tick (now + i) i (P m)) = nI (rl_wf (now + i) c (rl_tick (now + i) i (P m))) := if_pos (by rw [rl_bu_tick]; exact hB)
          rw [e1, hro.2, ← hw]
        refine br_t ea (rl_pass (n := 1) (by omega) (by omega) hu2 (fun u' hu3 => ?_))
        obtain ⟨f3, e1, e2, e3, e4, e5, e6, e7, e8, e9, e10, e11, e12, e13, e14⟩ := u'
        refine br_t (nI_pos' (by omega)) (nm_r (nI_1 i) (ih (i + 1) f3 e1 e2 e3 e4 e5 e6 e7 e8 e9 e10 e11 e12 e13 e14 (by omega) (by omega) ?_))
        rw [show min (i + 1) w = i + 1 by omega]
        exact rl_cg (fun j _ => rl_V1 j) hu3
theorem rl_255 {L kc ks : Nat} {xs : Nat → Int32} {m c now : Nat} {P : Nat → rl_M} {z0 z1 : Int32} (hz : z1 + z0 = nI c) (hm : m < 4) (hc1 : 1 ≤ c) (hc : c ≤ 20) {f0 : Int32} {a1 a2 a3 a4 a5 a6 a7 a8 a9 a10 a11 a12 a13 a14 : Nat → Int32} {g0 : Int32} {b1 b2 b3 b4 b5 b6 b7 b8 b9 b10 b11 b12 b13 b14 : Nat → Int32} (h : rl_Rel 4 (f0, a1, a2, a3, a4, a5, a6, a7, a8, a9, a10, a11, a12, a13, a14) now P rl_F) (hd : rl_Rel 4 (g0, b1, b2, b3, b4, b5, b6, b7, b8, b9, b10, b11, b12, b13, b14) now P rl_F) :
    wL_law_255 (fun r => r = 1) L xs (nI m) z0 z1 kc ks f0 a1 a2 a3 a4 a5 a6 a7 a8 a9 a10 a11 a12 a13 a14 g0 b1 b2 b3 b4 b5 b6 b7 b8 b9 b10 b11 b12 b13 b14 := by
  have hok := rl_ok h hm
  have hn := rl_now h
  have hrl := rl_room_le hok
  unfold wL_law_255
  refine nm_r hz (rl_waitFor hm hc1 hc h (fun u' hu => ?_))
  obtain ⟨f1, c1, c2, c3, c4, c5, c6, c7, c8, c9, c10, c11, c12, c13, c14⟩ := u'
  by_cases hB : c ≤ rl_bu (P m)
  · have hw3 := rl_wf_le hok hc1 hB
    have ea : rl_ans now c (P m) = nI (rl_wf now c (P m)) := if_pos hB
    rw [ea]
    refine br_t (nI_pos' (by omega)) (rl_time hu ?_)
    refine pk_le (now + rl_wf now c (P m)) 100000 (fun z => ⟨302, ?_⟩) (fun z => ?_) (nI_add _ _)
    · exact rl_329 hm hc1 hc hB hok rfl z hd 302 0 f1 c1 c2 c3 c4 c5 c6 c7 c8 c9 c10 c11 c12 c13 c14 (by omega) (by omega) (by rw [Nat.zero_min]; exact rl_cg (rl_V0 (fun j hj => rl_ok h hj)) hu)
    · have hlast : ∀ r : Int32, ((r = (-4) → ((1 : Int32) = 1)) ∧ (¬ r = (-4) → (((1000 < nI (rl_wf now c (P m)) → ((0 : Int32) = 1)) ∧ (¬ 1000 < nI (rl_wf now c (P m)) → ((1 : Int32) = 1)))))) :=
        fun r => br_c (fun _ => rfl) (fun _ => br_f (nI_nlt (b := rl_wf now c (P m)) (a := 1000) (by omega) (by omega)) rfl)
      rcases Nat.lt_or_ge 100000 (now + 1000) with w | w
      · exact rl_passF (n := 1000) (by omega) w hu (hlast _)
      · refine rl_pass (n := 1000) (by omega) w hu (fun u' hu2 => ?_)
        obtain ⟨f2, d1, d2, d3, d4, d5, d6, d7, d8, d9, d10, d11, d12, d13, d14⟩ := u'
        exact hlast _
  · have ea : rl_ans now c (P m) = -4 := if_neg hB
    rw [ea]
    refine br_f (by decide) (rl_ask hm hc1 hc hu (fun q => absurd q (by omega)) (fun _ u' hu2 => ?_))
    obtain ⟨f2, d1, d2, d3, d4, d5, d6, d7, d8, d9, d10, d11, d12, d13, d14⟩ := u'
    exact br_t rfl rfl
theorem rl_234 {L kc ks : Nat} {xs : Nat → Int32} (hL : L ≤ 260) {m now : Nat} {P : Nat → rl_M} (hm : m < 4) {f0 : Int32} {a1 a2 a3 a4 a5 a6 a7 a8 a9 a10 a11 a12 a13 a14 : Nat → Int32} {g0 : Int32} {b1 b2 b3 b4 b5 b6 b7 b8 b9 b10 b11 b12 b13 b14 : Nat → Int32} (h : rl_Rel 4 (f0, a1, a2, a3, a4, a5, a6, a7, a8, a9, a10, a11, a12, a13, a14) now P rl_F) (hd : rl_Rel 4 (g0, b1, b2, b3, b4, b5, b6, b7, b8, b9, b10, b11, b12, b13, b14) now P rl_F) :
    wL_law_234 (fun r => r = 1) L xs (nI m) kc ks f0 a1 a2 a3 a4 a5 a6 a7 a8 a9 a10 a11 a12 a13 a14 g0 b1 b2 b3 b4 b5 b6 b7 b8 b9 b10 b11 b12 b13 b14 := by
  unfold wL_law_234
  refine pk_le L 1 (fun _ => rl_255 (c := 4) (by decide) hm (by omega) (by omega) h hd) (fun z => ⟨pk_in 1 L z, by decide, ?_⟩)
  obtain ⟨j, hj, ej⟩ := pk_andE (xs (1 : Int32).toNatClampNeg) (m := 2147483647) 31 (by decide)
  rw [ej]
  refine rl_255 (c := 1 + j % 20) ?_ hm (by omega) (by omega) h hd
  have er : nI j - nI j / 20 * 20 = nI (j % 20) := pk_rem (d := 20) hj (by omega) (by omega)
  rw [er]
  exact nI_add 1 _
end
section
/-! part 7: one turn of the law, the main loop, the claim -/
theorem rl_askAll_d (now : Nat) (P : Nat → rl_M) (x1 p1 : Int32) : rl_det (fun post u => wpX_askAll post u x1 p1) now P := by
  rcases rl_cost p1 with hp | ⟨c, hc1, hc, rfl⟩
  · refine ⟨-3, now, P, fun post u C h H => ?_⟩
    have q := H u (rl_wF h)
    obtain ⟨f0, a1, a2, a3, a4, a5, a6, a7, a8, a9, a10, a11, a12, a13, a14⟩ := u
    show wpX_askAll post (f0, a1, a2, a3, a4, a5, a6, a7, a8, a9, a10, a11, a12, a13, a14) x1 p1
    unfold wpX_askAll
    dsimp only
    exact rl_badCostN hp (br_f (by decide) q)
  · by_cases hall : ∀ j, j < 4 → rl_bit x1 j → c ≤ rl_room (P j)
    · refine ⟨1, now, fun j => if ((x1 >>> (nI j &&& 31)) &&& 1) = 1 then rl_gr now c (P j) else P j, fun post u C h H => ?_⟩
      refine rl_askAll hc1 hc h _ (fun j => if ((x1 >>> (nI j &&& 31)) &&& 1) = 1 ∧ rl_room (P j) < c then rl_den 1 (P j) else P j) (fun j _ hb => if_pos hb) (fun j _ hb => if_neg hb) (fun j _ hb hr => if_pos ⟨hb, hr⟩) (fun j _ hb => if_neg hb) (fun _ => H) (fun hex => ?_)
      obtain ⟨j, hj, hb, hr⟩ := hex
      exact absurd (hall j hj hb) (by omega)
    · refine ⟨0, now, fun j => if ((x1 >>> (nI j &&& 31)) &&& 1) = 1 ∧ rl_room (P j) < c then rl_den 1 (P j) else P j, fun post u C h H => ?_⟩
      exact rl_askAll hc1 hc h (fun j => if ((x1 >>> (nI j &&& 31)) &&& 1) = 1 then rl_gr now c (P j) else P j) _ (fun j _ hb => if_pos hb) (fun j _ hb => if_neg hb) (fun j _ hb hr => if_pos ⟨hb, hr⟩) (fun j _ hb => if_neg hb) (fun z => absurd z hall) (fun _ => H)
/-- the mask of one meter, with idle bits above -/
theorem rl_mask : ∀ x, x < 4 → ∀ w, w < 8 → ∀ j, j < 4 → ((((((1 : Int32) <<< (nI x &&& 31)) + 16 * nI w) >>> (nI j &&& 31)) &&& 1) = 1 ↔ j = x) := by decide +kernel
/-- ask one meter, or askAll with its mask: the same answer, the same picture -/
theorem rl_ask_d (now : Nat) (P : Nat → rl_M) {x w : Nat} (hx : x < 4) (hw : w < 8) (p1 : Int32) : ∃ (r : Int32) (P' : Nat → rl_M),
    (∀ (post : Int32 → St1 → Prop) (u : St1) (C : Nat → Prop), rl_Rel 4 u now P C → (∀ u', rl_Rel 4 u' now P' rl_F → post r u') → wpX_ask post u (nI x) p1) ∧
    (∀ (post : Int32 → St1 → Prop) (u : St1) (C : Nat → Prop), rl_Rel 4 u now P C → (∀ u', rl_Rel 4 u' now P' rl_F → post r u') → wpX_askAll post u (((1 : Int32) <<< (nI x &&& 31)) + (16 * nI w)) p1) := by
  rcases rl_cost p1 with hp | ⟨c, hc1, hc, rfl⟩
  · refine ⟨-3, P, fun post u C h H => ?_, fun post u C h H => ?_⟩
    · have q := H u (rl_wF h)
      obtain ⟨f0, a1, a2, a3, a4, a5, a6, a7, a8, a9, a10, a11, a12, a13, a14⟩ := u
      unfold wpX_ask
      dsimp only
      exact rl_bad hx (br_t rfl (rl_badCostN hp (br_f (by decide) q)))
    · have q := H u (rl_wF h)
      obtain ⟨f0, a1, a2, a3, a4, a5, a6, a7, a8, a9, a10, a11, a12, a13, a14⟩ := u
      unfold wpX_askAll
      dsimp only
      exact rl_badCostN hp (br_f (by decide) q)
  · have hm : ∀ j, j < 4 → (rl_bit (((1 : Int32) <<< (nI x &&& 31)) + (16 * nI w)) j ↔ j = x) := fun j hj => rl_mask x hx w hw j hj
    have go : ∀ (post : Int32 → St1 → Prop) (u : St1) (C : Nat → Prop), rl_Rel 4 u now P C → (c ≤ rl_room (P x) → ∀ u', rl_Rel 4 u' now (rl_up P x (rl_gr now c (P x))) rl_F → post 1 u') → (rl_room (P x) < c → ∀ u', rl_Rel 4 u' now (rl_up P x (rl_den 1 (P x))) rl_F → post 0 u') → wpX_askAll post u (((1 : Int32) <<< (nI x &&& 31)) + (16 * nI w)) (nI c) := by
      intro post u C h H1 H0
      refine rl_askAll hc1 hc h (rl_up P x (rl_gr now c (P x))) (if rl_room (P x) < c then rl_up P x (rl_den 1 (P x)) else P) (fun j hj hb => ?_) (fun j hj hb => ?_) (fun j hj hb hr => ?_) (fun j hj hb => ?_) (fun hall => H1 (hall x hx ((hm x hx).mpr rfl))) (fun hex => ?_)
      · rw [(hm j hj).mp hb, rl_up_s]
      · exact rl_up_n (fun e => hb ((hm j hj).mpr e))
      · have e := (hm j hj).mp hb
        rw [e] at hr ⊢
        rw [if_pos hr, rl_up_s]
      · by_cases e : j = x
        · have hr : ¬ rl_room (P x) < c := fun z => hb ⟨(hm j hj).mpr e, by rw [e]; exact z⟩
          rw [if_neg hr]
        · by_cases hr : rl_room (P x) < c
          · rw [if_pos hr, rl_up_n e]
          · rw [if_neg hr]
      · obtain ⟨j, hj, hb, hr⟩ := hex
        rw [(hm j hj).mp hb] at hr
        rw [if_pos hr]
        exact H0 hr
    rcases Nat.lt_or_ge (rl_room (P x)) c with hr | hr
    · exact ⟨0, _, fun post u C h H => rl_ask hx hc1 hc h (fun z => absurd z (by omega)) (fun _ => H), fun post u C h H => go post u C h (fun z => absurd z (by omega)) (fun _ => H)⟩
    · exact ⟨1, _, fun post u C h H => rl_ask hx hc1 hc h (fun _ => H) (fun z => absurd z (by omega)), fun post u C h H => go post u C h (fun _ => H) (fun z => absurd z (by omega))⟩
/-! call -/
theorem rl_c_set (now : Nat) (P : Nat → rl_M) {kd : Nat} (hk : kd < 4) (x y z : Int32) : rl_det (fun post u => wpL_call post u (nI kd) x y z) now P := by
  obtain ⟨r, now', P', D⟩ := rl_set_d now P x y z
  refine ⟨r, now', P', fun post u C h H => ?_⟩
  obtain ⟨f0, a1, a2, a3, a4, a5, a6, a7, a8, a9, a10, a11, a12, a13, a14⟩ := u
  refine pk_le 4 kd (fun z => absurd z (by omega)) (fun _ => D _ _ C h (fun u' hu' => ?_))
  have q := H u' hu'
  obtain ⟨g0, b1, b2, b3, b4, b5, b6, b7, b8, b9, b10, b11, b12, b13, b14⟩ := u'
  exact q
theorem rl_c_all (now : Nat) (P : Nat → rl_M) {kd : Nat} (hk : 9 ≤ kd) (hk2 : kd < 12) (x y z : Int32) : rl_det (fun post u => wpL_call post u (nI kd) x y z) now P := by
  obtain ⟨r, now', P', D⟩ := rl_askAll_d now P x y
  refine ⟨r, now', P', fun post u C h H => ?_⟩
  obtain ⟨f0, a1, a2, a3, a4, a5, a6, a7, a8, a9, a10, a11, a12, a13, a14⟩ := u
  refine pk_le 4 kd (fun _ => pk_le 9 kd (fun _ => pk_le 12 kd (fun z => absurd z (by omega)) (fun _ => D _ _ C h (fun u' hu' => ?_))) (fun z => absurd z (by omega))) (fun z => absurd z (by omega))
  have q := H u' hu'
  obtain ⟨g0, b1, b2, b3, b4, b5, b6, b7, b8, b9, b10, b11, b12, b13, b14⟩ := u'
  exact q
theorem rl_c_ask {post : Int32 → St1 → Prop} {u : St1} {kd : Nat} (hk : 4 ≤ kd) (hk2 : kd < 9) {x y z : Int32} (W : ∀ post' : Int32 → St1 → Prop, (∀ r u', post r u' → post' r u') → wpX_ask post' u x y) : wpL_call post u (nI kd) x y z := by
  obtain ⟨f0, a1, a2, a3, a4, a5, a6, a7, a8, a9, a10, a11, a12, a13, a14⟩ := u
  refine pk_le 4 kd (fun _ => pk_le 9 kd (fun z => absurd z (by omega)) (fun _ => W _ (fun r u' q => ?_))) (fun z => absurd z (by omega))
  obtain ⟨g0, b1, b2, b3, b4, b5, b6, b7, b8, b9, b10, b11, b12, b13, b14⟩ := u'
  exact q
theorem rl_c_pass {post : Int32 → St1 → Prop} {u : St1} {kd : Nat} (hk : 12 ≤ kd) (hk2 : kd < 16) {x y z : Int32} (W : ∀ post' : Int32 → St1 → Prop, (∀ r u', post r u' → post' r u') → wpX_pass post' u x) : wpL_call post u (nI kd) x y z := by
  obtain ⟨f0, a1, a2, a3, a4, a5, a6, a7, a8, a9, a10, a11, a12, a13, a14⟩ := u
  refine pk_le 4 kd (fun _ => pk_le 9 kd (fun _ => pk_le 12 kd (fun _ => W _ (fun r u' q => ?_)) (fun z => absurd z (by omega))) (fun z => absurd z (by omega))) (fun z => absurd z (by omega))
  obtain ⟨g0, b1, b2, b3, b4, b5, b6, b7, b8, b9, b10, b11, b12, b13, b14⟩ := u'
  exact q
/-! d's turn by the same call -/
theorem rl_172 {L kc ks k : Nat} {xs : Nat → Int32} {J : Int32 → Int32 → (Nat → Int32) → (Nat → Int32) → (Nat → Int32) → (Nat → Int32) → (Nat → Int32) → (Nat → Int32) → (Nat → Int32) → (Nat → Int32) → (Nat → Int32) → (Nat → Int32) → (Nat → Int32) → (Nat → Int32) → (Nat → Int32) → (Nat → Int32) → Int32 → (Nat → Int32) → (Nat → Int32) → (Nat → Int32) → (Nat → Int32) → (Nat → Int32) → (Nat → Int32) → (Nat → Int32) → (Nat → Int32) → (Nat → Int32) → (Nat → Int32) → (Nat → Int32) → (Nat → Int32) → (Nat → Int32) → (Nat → Int32) → Prop} {x4 x5 r : Int32} {now now' : Nat} {P P' : Nat → rl_M} (hL : L ≤ 260) (hk : k + 3 < L)
    (D : ∀ (post : Int32 → St1 → Prop) (u : St1) (C : Nat → Prop), rl_Rel 4 u now P C → (∀ u', rl_Rel 4 u' now' P' rl_F → post r u') → wpL_call post u x4 x5 (xs (k + 2)) (xs (k + 3)))
    {f0 : Int32} {a1 a2 a3 a4 a5 a6 a7 a8 a9 a10 a11 a12 a13 a14 : Nat → Int32} {g0 : Int32} {b1 b2 b3 b4 b5 b6 b7 b8 b9 b10 b11 b12 b13 b14 : Nat → Int32} (hd : rl_Rel 4 (g0, b1, b2, b3, b4, b5, b6, b7, b8, b9, b10, b11, b12, b13, b14) now P rl_F)
    (hJ : ∀ (g0 : Int32) (b1 b2 b3 b4 b5 b6 b7 b8 b9 b10 b11 b12 b13 b14 : Nat → Int32), rl_Rel 4 (g0, b1, b2, b3, b4, b5, b6, b7, b8, b9, b10, b11, b12, b13, b14) now' P' rl_F → J (nI (k + 4)) f0 a1 a2 a3 a4 a5 a6 a7 a8 a9 a10 a11 a12 a13 a14 g0 b1 b2 b3 b4 b5 b6 b7 b8 b9 b10 b11 b12 b13 b14) :
    wL_law_172 (fun r => r = 1) L xs J (nI k) x4 x5 r kc ks f0 a1 a2 a3 a4 a5 a6 a7 a8 a9 a10 a11 a12 a13 a14 g0 b1 b2 b3 b4 b5 b6 b7 b8 b9 b10 b11 b12 b13 b14 := by
  have e2 : (nI k + 2).toNatClampNeg = k + 2 := pk_cl (k + 2) (nI_add k 2)
  have e3 : (nI k + 3).toNatClampNeg = k + 3 := pk_cl (k + 3) (nI_add k 3)
  unfold wL_law_172
  rw [e2, e3]
  refine ⟨pk_in (k + 2) L (by omega) (nI_add k 2), pk_in (k + 3) L (by omega) (nI_add k 3), D _ _ _ hd (fun u' hu' => ?_)⟩
  obtain ⟨g1, c1, c2, c3, c4, c5, c6, c7, c8, c9, c10, c11, c12, c13, c14⟩ := u'
  exact br_t rfl (nm_r (nI_add k 4) (hJ g1 c1 c2 c3 c4 c5 c6 c7 c8 c9 c10 c11 c12 c13 c14 hu'))
/-- the class of a turn whose d goes by the same call -/
theorem rl_118 {L kc ks k kd : Nat} {xs : Nat → Int32} {J : Int32 → Int32 → (Nat → Int32) → (Nat → Int32) → (Nat → Int32) → (Nat → Int32) → (Nat → Int32) → (Nat → Int32) → (Nat → Int32) → (Nat → Int32) → (Nat → Int32) → (Nat → Int32) → (Nat → Int32) → (Nat → Int32) → (Nat → Int32) → (Nat → Int32) → Int32 → (Nat → Int32) → (Nat → Int32) → (Nat → Int32) → (Nat → Int32) → (Nat → Int32) → (Nat → Int32) → (Nat → Int32) → (Nat → Int32) → (Nat → Int32) → (Nat → Int32) → (Nat → Int32) → (Nat → Int32) → (Nat → Int32) → (Nat → Int32) → Prop} {x5 r : Int32} (hkd : kd < 16) (hcl : kd ≤ 3 ∨ 9 ≤ kd ∨ x5 < 0 ∨ nI 4 ≤ x5)
    {f0 : Int32} {a1 a2 a3 a4 a5 a6 a7 a8 a9 a10 a11 a12 a13 a14 : Nat → Int32} {g0 : Int32} {b1 b2 b3 b4 b5 b6 b7 b8 b9 b10 b11 b12 b13 b14 : Nat → Int32} (W : wL_law_172 (fun r => r = 1) L xs J (nI k) (nI kd) x5 r kc ks f0 a1 a2 a3 a4 a5 a6 a7 a8 a9 a10 a11 a12 a13 a14 g0 b1 b2 b3 b4 b5 b6 b7 b8 b9 b10 b11 b12 b13 b14) :
    wL_law_118 (fun r => r = 1) L xs J (nI k) (nI kd) x5 r kc ks f0 a1 a2 a3 a4 a5 a6 a7 a8 a9 a10 a11 a12 a13 a14 g0 b1 b2 b3 b4 b5 b6 b7 b8 b9 b10 b11 b12 b13 b14 := by
  unfold wL_law_118
  refine pk_le kd 3 (fun _ => W) (fun h1 => pk_le 9 kd (fun _ => W) (fun h2 => br_c (fun _ => W) (fun h3 => br_c (fun _ => W) (fun h4 => ?_))))
  rcases hcl with h | h | h | h
  · omega
  · omega
  · exact absurd h h3
  · exact absurd h h4
/-- a turn where both go by the same call -/
theorem rl_turnC {L kc ks k kd : Nat} {xs : Nat → Int32} {J : Int32 → Int32 → (Nat → Int32) → (Nat → Int32) → (Nat → Int32) → (Nat → Int32) → (Nat → Int32) → (Nat → Int32) → (Nat → Int32) → (Nat → Int32) → (Nat → Int32) → (Nat → Int32) → (Nat → Int32) → (Nat → Int32) → (Nat → Int32) → (Nat → Int32) → Int32 → (Nat → Int32) → (Nat → Int32) → (Nat → Int32) → (Nat → Int32) → (Nat → Int32) → (Nat → Int32) → (Nat → Int32) → (Nat → Int32) → (Nat → Int32) → (Nat → Int32) → (Nat → Int32) → (Nat → Int32) → (Nat → Int32) → (Nat → Int32) → Prop} {x5 : Int32} {now : Nat} {P : Nat → rl_M} (hL : L ≤ 260) (hk : k + 3 < L) (hkd : kd < 12) (hcl : kd ≤ 3 ∨ 9 ≤ kd ∨ x5 < 0 ∨ nI 4 ≤ x5)
    (D : rl_det (fun post u => wpL_call post u (nI kd) x5 (xs (k + 2)) (xs (k + 3))) now P)
    {f0 : Int32} {a1 a2 a3 a4 a5 a6 a7 a8 a9 a10 a11 a12 a13 a14 : Nat → Int32} {g0 : Int32} {b1 b2 b3 b4 b5 b6 b7 b8 b9 b10 b11 b12 b13 b14 : Nat → Int32} (hc : rl_Rel 4 (f0, a1, a2, a3, a4, a5, a6, a7, a8, a9, a10, a11, a12, a13, a14) now P rl_F) (hd : rl_Rel 4 (g0, b1, b2, b3, b4, b5, b6, b7, b8, b9, b10, b11, b12, b13, b14) now P rl_F)
    (hJ : ∀ (now' : Nat) (P' : Nat → rl_M) (f0 : Int32) (a1 a2 a3 a4 a5 a6 a7 a8 a9 a10 a11 a12 a13 a14 : Nat → Int32) (g0 : Int32) (b1 b2 b3 b4 b5 b6 b7 b8 b9 b10 b11 b12 b13 b14 : Nat → Int32), rl_Rel 4 (f0, a1, a2, a3, a4, a5, a6, a7, a8, a9, a10, a11, a12, a13, a14) now' P' rl_F → rl_Rel 4 (g0, b1, b2, b3, b4, b5, b6, b7, b8, b9, b10, b11, b12, b13, b14) now' P' rl_F → J (nI (k + 4)) f0 a1 a2 a3 a4 a5 a6 a7 a8 a9 a10 a11 a12 a13 a14 g0 b1 b2 b3 b4 b5 b6 b7 b8 b9 b10 b11 b12 b13 b14)
    (post : Int32 → St1 → Prop) (hpost : ∀ (r f0 : Int32) (a1 a2 a3 a4 a5 a6 a7 a8 a9 a10 a11 a12 a13 a14 : Nat → Int32), wL_law_118 (fun r => r = 1) L xs J (nI k) (nI kd) x5 r kc ks f0 a1 a2 a3 a4 a5 a6 a7 a8 a9 a10 a11 a12 a13 a14 g0 b1 b2 b3 b4 b5 b6 b7 b8 b9 b10 b11 b12 b13 b14 → post r (f0, a1, a2, a3, a4, a5, a6, a7, a8, a9, a10, a11, a12, a13, a14)) :
    wpL_call post (f0, a1, a2, a3, a4, a5, a6, a7, a8, a9, a10, a11, a12, a13, a14) (nI kd) x5 (xs (k + 2)) (xs (k + 3)) := by
  obtain ⟨r, now', P', D⟩ := D
  refine D _ _ _ hc (fun u' hu' => ?_)
  obtain ⟨f1, c1, c2, c3, c4, c5, c6, c7, c8, c9, c10, c11, c12, c13, c14⟩ := u'
  exact hpost r f1 c1 c2 c3 c4 c5 c6 c7 c8 c9 c10 c11 c12 c13 c14 (rl_118 (by omega) hcl (rl_172 hL hk D hd (fun g0 b1 b2 b3 b4 b5 b6 b7 b8 b9 b10 b11 b12 b13 b14 hd' => hJ now' P' f1 c1 c2 c3 c4 c5 c6 c7 c8 c9 c10 c11 c12 c13 c14 g0 b1 b2 b3 b4 b5 b6 b7 b8 b9 b10 b11 b12 b13 b14 hu' hd')))
end
section
/-! part 8: the main loop and the claim -/
theorem rl_det_bad (now : Nat) (P : Nat → rl_M) {kd : Nat} (hk : 4 ≤ kd) (hk2 : kd < 9) {x : Int32} (hx : x < 0 ∨ nI 4 ≤ x) (y z : Int32) : rl_det (fun post u => wpL_call post u (nI kd) x y z) now P :=
  ⟨-1, now, P, fun post u C h H => rl_c_ask hk hk2 (fun post' hp => by
    have q := hp _ _ (H u (rl_wF h))
    obtain ⟨f0, a1, a2, a3, a4, a5, a6, a7, a8, a9, a10, a11, a12, a13, a14⟩ := u
    unfold wpX_ask
    dsimp only
    exact rl_badN hx (br_f (by decide) q))⟩
theorem rl_turnA {L kc ks k kd : Nat} {xs : Nat → Int32} {J : Int32 → Int32 → (Nat → Int32) → (Nat → Int32) → (Nat → Int32) → (Nat → Int32) → (Nat → Int32) → (Nat → Int32) → (Nat → Int32) → (Nat → Int32) → (Nat → Int32) → (Nat → Int32) → (Nat → Int32) → (Nat → Int32) → (Nat → Int32) → (Nat → Int32) → Int32 → (Nat → Int32) → (Nat → Int32) → (Nat → Int32) → (Nat → Int32) → (Nat → Int32) → (Nat → Int32) → (Nat → Int32) → (Nat → Int32) → (Nat → Int32) → (Nat → Int32) → (Nat → Int32) → (Nat → Int32) → (Nat → Int32) → (Nat → Int32) → Prop} {now x : Nat} {P : Nat → rl_M} (hL : L ≤ 260) (hk : k + 3 < L) (h4 : 4 ≤ kd) (h9 : kd < 9) (hx : x < 4)
    {f0 : Int32} {a1 a2 a3 a4 a5 a6 a7 a8 a9 a10 a11 a12 a13 a14 : Nat → Int32} {g0 : Int32} {b1 b2 b3 b4 b5 b6 b7 b8 b9 b10 b11 b12 b13 b14 : Nat → Int32} (hc : rl_Rel 4 (f0, a1, a2, a3, a4, a5, a6, a7, a8, a9, a10, a11, a12, a13, a14) now P rl_F) (hd : rl_Rel 4 (g0, b1, b2, b3, b4, b5, b6, b7, b8, b9, b10, b11, b12, b13, b14) now P rl_F)
    (hJ : ∀ (now' : Nat) (P' : Nat → rl_M) (f0 : Int32) (a1 a2 a3 a4 a5 a6 a7 a8 a9 a10 a11 a12 a13 a14 : Nat → Int32) (g0 : Int32) (b1 b2 b3 b4 b5 b6 b7 b8 b9 b10 b11 b12 b13 b14 : Nat → Int32), rl_Rel 4 (f0, a1, a2, a3, a4, a5, a6, a7, a8, a9, a10, a11, a12, a13, a14) now' P' rl_F → rl_Rel 4 (g0, b1, b2, b3, b4, b5, b6, b7, b8, b9, b10, b11, b12, b13, b14) now' P' rl_F → J (nI (k + 4)) f0 a1 a2 a3 a4 a5 a6 a7 a8 a9 a10 a11 a12 a13 a14 g0 b1 b2 b3 b4 b5 b6 b7 b8 b9 b10 b11 b12 b13 b14)
    (post : Int32 → St1 → Prop) (hpost : ∀ (r f0 : Int32) (a1 a2 a3 a4 a5 a6 a7 a8 a9 a10 a11 a12 a13 a14 : Nat → Int32), wL_law_118 (fun r => r = 1) L xs J (nI k) (nI kd) (nI x) r kc ks f0 a1 a2 a3 a4 a5 a6 a7 a8 a9 a10 a11 a12 a13 a14 g0 b1 b2 b3 b4 b5 b6 b7 b8 b9 b10 b11 b12 b13 b14 → post r (f0, a1, a2, a3, a4, a5, a6, a7, a8, a9, a10, a11, a12, a13, a14)) :
    wpL_call post (f0, a1, a2, a3, a4, a5, a6, a7, a8, a9, a10, a11, a12, a13, a14) (nI kd) (nI x) (xs (k + 2)) (xs (k + 3)) := by
  obtain ⟨w, hw, ew⟩ := pk_andE (xs (k + 3)) (m := 7) 3 (by decide)
  obtain ⟨r, P', A1, A2⟩ := rl_ask_d now P hx hw (xs (k + 2))
  refine rl_c_ask h4 h9 (fun post' hp => A1 post' _ _ hc (fun u' hu' => hp _ _ ?_))
  obtain ⟨f1, c1, c2, c3, c4, c5, c6, c7, c8, c9, c10, c11, c12, c13, c14⟩ := u'
  refine hpost r f1 c1 c2 c3 c4 c5 c6 c7 c8 c9 c10 c11 c12 c13 c14 ?_
  have e2 : (nI k + 2).toNatClampNeg = k + 2 := pk_cl (k + 2) (nI_add k 2)
  have e3 : (nI k + 3).toNatClampNeg = k + 3 := pk_cl (k + 3) (nI_add k 3)
  unfold wL_law_118
  rw [e2, e3, ew]
  refine pk_le kd 3 (fun z => absurd z (by omega)) (fun _ => pk_le 9 kd (fun z => absurd z (by omega)) (fun _ => br_f (nI_pos (by omega)) (pk_le 4 x (fun z => absurd z (by omega)) (fun _ => ⟨pk_in (k + 3) L (by omega) (nI_add k 3), pk_in (k + 2) L (by omega) (nI_add k 2), A2 _ _ _ hd (fun u' hv => ?_)⟩))))
  obtain ⟨g1, d1, d2, d3, d4, d5, d6, d7, d8, d9, d10, d11, d12, d13, d14⟩ := u'
  exact br_t rfl (nm_r (nI_add k 4) (hJ now P' f1 c1 c2 c3 c4 c5 c6 c7 c8 c9 c10 c11 c12 c13 c14 g1 d1 d2 d3 d4 d5 d6 d7 d8 d9 d10 d11 d12 d13 d14 hu' hv))
theorem rl_turnB {L kc ks k kd : Nat} {xs : Nat → Int32} {J : Int32 → Int32 → (Nat → Int32) → (Nat → Int32) → (Nat → Int32) → (Nat → Int32) → (Nat → Int32) → (Nat → Int32) → (Nat → Int32) → (Nat → Int32) → (Nat → Int32) → (Nat → Int32) → (Nat → Int32) → (Nat → Int32) → (Nat → Int32) → (Nat → Int32) → Int32 → (Nat → Int32) → (Nat → Int32) → (Nat → Int32) → (Nat → Int32) → (Nat → Int32) → (Nat → Int32) → (Nat → Int32) → (Nat → Int32) → (Nat → Int32) → (Nat → Int32) → (Nat → Int32) → (Nat → Int32) → (Nat → Int32) → (Nat → Int32) → Prop} {x5 r : Int32} {now : Nat} {P : Nat → rl_M} (hL : L ≤ 260) (hk : k + 3 < L) (h12 : 12 ≤ kd) (h16 : kd < 16) (_ : r < 0)
    (W : ∀ (post : Int32 → St1 → Prop) (u : St1) (C : Nat → Prop), rl_Rel 4 u now P C → post r u → wpX_pass post u x5)
    {f0 : Int32} {a1 a2 a3 a4 a5 a6 a7 a8 a9 a10 a11 a12 a13 a14 : Nat → Int32} {g0 : Int32} {b1 b2 b3 b4 b5 b6 b7 b8 b9 b10 b11 b12 b13 b14 : Nat → Int32} (hc : rl_Rel 4 (f0, a1, a2, a3, a4, a5, a6, a7, a8, a9, a10, a11, a12, a13, a14) now P rl_F) (hd : rl_Rel 4 (g0, b1, b2, b3, b4, b5, b6, b7, b8, b9, b10, b11, b12, b13, b14) now P rl_F)
    (hJ : ∀ (now' : Nat) (P' : Nat → rl_M) (f0 : Int32) (a1 a2 a3 a4 a5 a6 a7 a8 a9 a10 a11 a12 a13 a14 : Nat → Int32) (g0 : Int32) (b1 b2 b3 b4 b5 b6 b7 b8 b9 b10 b11 b12 b13 b14 : Nat → Int32), rl_Rel 4 (f0, a1, a2, a3, a4, a5, a6, a7, a8, a9, a10, a11, a12, a13, a14) now' P' rl_F → rl_Rel 4 (g0, b1, b2, b3, b4, b5, b6, b7, b8, b9, b10, b11, b12, b13, b14) now' P' rl_F → J (nI (k + 4)) f0 a1 a2 a3 a4 a5 a6 a7 a8 a9 a10 a11 a12 a13 a14 g0 b1 b2 b3 b4 b5 b6 b7 b8 b9 b10 b11 b12 b13 b14)
    (post : Int32 → St1 → Prop) (hpost : ∀ (f0 : Int32) (a1 a2 a3 a4 a5 a6 a7 a8 a9 a10 a11 a12 a13 a14 : Nat → Int32), wL_law_118 (fun r => r = 1) L xs J (nI k) (nI kd) x5 r kc ks f0 a1 a2 a3 a4 a5 a6 a7 a8 a9 a10 a11 a12 a13 a14 g0 b1 b2 b3 b4 b5 b6 b7 b8 b9 b10 b11 b12 b13 b14 → post r (f0, a1, a2, a3, a4, a5, a6, a7, a8, a9, a10, a11, a12, a13, a14)) :
    wpL_call post (f0, a1, a2, a3, a4, a5, a6, a7, a8, a9, a10, a11, a12, a13, a14) (nI kd) x5 (xs (k + 2)) (xs (k + 3)) :=
  rl_c_pass h12 h16 (fun post' hp => W post' _ _ hc (hp _ _ (hpost f0 a1 a2 a3 a4 a5 a6 a7 a8 a9 a10 a11 a12 a13 a14 (rl_118 h16 (Or.inr (Or.inl (by omega))) (rl_172 hL hk (fun post u C h H => rl_c_pass h12 h16 (fun post' hp => W post' u C h (hp _ _ (H u (rl_wF h))))) hd (fun g0 b1 b2 b3 b4 b5 b6 b7 b8 b9 b10 b11 b12 b13 b14 hd' => hJ now P f0 a1 a2 a3 a4 a5 a6 a7 a8 a9 a10 a11 a12 a13 a14 g0 b1 b2 b3 b4 b5 b6 b7 b8 b9 b10 b11 b12 b13 b14 hc hd'))))))
theorem rl_tt3 {now n h : Nat} (hh : h ≤ n) (x : rl_M) : rl_tick (now + n) n x = rl_tick (now + h + 0 + (n - h)) (n - h) (rl_tick (now + h + 0) 0 (rl_tick (now + h) h x)) := by
  rw [rl_tt, Nat.add_zero, Nat.zero_add, rl_tt, show now + h + (n - h) = now + n by omega, show h + (n - h) = n by omega]
theorem rl_18 {L kc ks : Nat} {xs : Nat → Int32} (hL : L ≤ 260) :
    ∀ (n k now : Nat) (P : Nat → rl_M) (f0 : Int32) (a1 a2 a3 a4 a5 a6 a7 a8 a9 a10 a11 a12 a13 a14 : Nat → Int32) (g0 : Int32) (b1 b2 b3 b4 b5 b6 b7 b8 b9 b10 b11 b12 b13 b14 : Nat → Int32), k ≤ L → L - k < n → rl_Rel 4 (f0, a1, a2, a3, a4, a5, a6, a7, a8, a9, a10, a11, a12, a13, a14) now P rl_F → rl_Rel 4 (g0, b1, b2, b3, b4, b5, b6, b7, b8, b9, b10, b11, b12, b13, b14) now P rl_F → wL_law_18 (fun r => r = 1) L xs kc ks n (nI k) f0 a1 a2 a3 a4 a5 a6 a7 a8 a9 a10 a11 a12 a13 a14 g0 b1 b2 b3 b4 b5 b6 b7 b8 b9 b10 b11 b12 b13 b14 := by
  intro n
  induction n with
  | zero => intro k now P f0 a1 a2 a3 a4 a5 a6 a7 a8 a9 a10 a11 a12 a13 a14 g0 b1 b2 b3 b4 b5 b6 b7 b8 b9 b10 b11 b12 b13 b14 h1 h2; exact absurd h2 (by omega)
  | succ n ih =>
    intro k now P f0 a1 a2 a3 a4 a5 a6 a7 a8 a9 a10 a11 a12 a13 a14 g0 b1 b2 b3 b4 b5 b6 b7 b8 b9 b10 b11 b12 b13 b14 h1 h2 hc hd
    refine pk_le L (k + 3) (fun z => ?_) (fun hk => ?_) rfl (nI_add k 3)
    · refine rl_same hc hd (fun f0 a1 a2 a3 a4 a5 a6 a7 a8 a9 a10 a11 a12 a13 a14 g0 b1 b2 b3 b4 b5 b6 b7 b8 b9 b10 b11 b12 b13 b14 hc hd => br_f (by decide) ?_)
      refine pk_le L 0 (fun _ => rl_234 (m := 1) hL (by omega) hc hd) (fun z => ⟨pk_in 0 L z, ?_⟩)
      obtain ⟨j, hj, ej⟩ := pk_andE (xs (0 : Int32).toNatClampNeg >>> ((4 : Int32) &&& 31)) (m := 3) 2 (by decide)
      rw [ej]
      exact rl_234 hL (by omega) hc hd
    · have e0 : (nI k).toNatClampNeg = k := pk_cl k
      have e1 : (nI k + 1).toNatClampNeg = k + 1 := pk_cl (k + 1) (nI_add k 1)
      have e2 : (nI k + 2).toNatClampNeg = k + 2 := pk_cl (k + 2) (nI_add k 2)
      have e3 : (nI k + 3).toNatClampNeg = k + 3 := pk_cl (k + 3) (nI_add k 3)
      obtain ⟨kd, hkd, ekd⟩ := pk_andE (xs k) (m := 15) 4 (by decide)
      have hJ : ∀ (now' : Nat) (P' : Nat → rl_M) (f0 : Int32) (a1 a2 a3 a4 a5 a6 a7 a8 a9 a10 a11 a12 a13 a14 : Nat → Int32) (g0 : Int32) (b1 b2 b3 b4 b5 b6 b7 b8 b9 b10 b11 b12 b13 b14 : Nat → Int32), rl_Rel 4 (f0, a1, a2, a3, a4, a5, a6, a7, a8, a9, a10, a11, a12, a13, a14) now' P' rl_F → rl_Rel 4 (g0, b1, b2, b3, b4, b5, b6, b7, b8, b9, b10, b11, b12, b13, b14) now' P' rl_F → wL_law_18 (fun r => r = 1) L xs kc ks n (nI (k + 4)) f0 a1 a2 a3 a4 a5 a6 a7 a8 a9 a10 a11 a12 a13 a14 g0 b1 b2 b3 b4 b5 b6 b7 b8 b9 b10 b11 b12 b13 b14 :=
        fun now' P' f0 a1 a2 a3 a4 a5 a6 a7 a8 a9 a10 a11 a12 a13 a14 g0 b1 b2 b3 b4 b5 b6 b7 b8 b9 b10 b11 b12 b13 b14 hc hd => ih (k + 4) now' P' f0 a1 a2 a3 a4 a5 a6 a7 a8 a9 a10 a11 a12 a13 a14 g0 b1 b2 b3 b4 b5 b6 b7 b8 b9 b10 b11 b12 b13 b14 (by omega) (by omega) hc hd
      rw [e0, e1, e2, e3]
      refine ⟨pk_in k L (by omega), nm_r ekd ⟨pk_in (k + 1) L (by omega) (nI_add k 1), nm_e ⟨pk_in (k + 2) L (by omega) (nI_add k 2), pk_in (k + 3) L (by omega) (nI_add k 3), ?_⟩⟩⟩
      by_cases k12 : kd < 12
      · have k11 : nI kd ≤ 11 := nI_le (b := 11) (by omega) (by decide)
        by_cases k4 : kd < 4
        · exact rl_turnC hL hk k12 (Or.inl (by omega)) (rl_c_set now P k4 _ _ _) hc hd hJ _ (fun r f0 a1 a2 a3 a4 a5 a6 a7 a8 a9 a10 a11 a12 a13 a14 W => br_t k11 W)
        · by_cases k9 : 9 ≤ kd
          · exact rl_turnC hL hk k12 (Or.inr (Or.inl k9)) (rl_c_all now P k9 k12 _ _ _) hc hd hJ _ (fun r f0 a1 a2 a3 a4 a5 a6 a7 a8 a9 a10 a11 a12 a13 a14 W => br_t k11 W)
          · rcases pk_ix (xs (k + 1)) (n := 4) (by decide) with hp | hp | ⟨x, hx, ex⟩
            · exact rl_turnC hL hk k12 (Or.inr (Or.inr (Or.inl hp))) (rl_det_bad now P (by omega) (by omega) (Or.inl hp) _ _) hc hd hJ _ (fun r f0 a1 a2 a3 a4 a5 a6 a7 a8 a9 a10 a11 a12 a13 a14 W => br_t k11 W)
            · exact rl_turnC hL hk k12 (Or.inr (Or.inr (Or.inr hp))) (rl_det_bad now P (by omega) (by omega) (Or.inr hp) _ _) hc hd hJ _ (fun r f0 a1 a2 a3 a4 a5 a6 a7 a8 a9 a10 a11 a12 a13 a14 W => br_t k11 W)
            · rw [ex]
              exact rl_turnA hL hk (by omega) (by omega) hx hc hd hJ _ (fun r f0 a1 a2 a3 a4 a5 a6 a7 a8 a9 a10 a11 a12 a13 a14 W => br_t k11 W)
      · have k11 : ¬ nI kd ≤ 11 := nI_ge (a := 11) (by omega) (by omega)
        by_cases hp : xs (k + 1) < 0 ∨ ¬ xs (k + 1) ≤ 1000
        · exact rl_turnB hL hk (by omega) hkd (r := -3) (by decide) (fun post u C h H => rl_passB hp H) hc hd hJ _ (fun f0 a1 a2 a3 a4 a5 a6 a7 a8 a9 a10 a11 a12 a13 a14 W => br_f k11 (br_t (by decide) W))
        · obtain ⟨v, hv, ex⟩ := nI_of2 (x := xs (k + 1)) (M := 1000) (n := 1000) (by decide) (fun z => hp (Or.inl z)) (Decidable.not_not.mp (fun z => hp (Or.inr z)))
          rw [ex]
          rcases Nat.lt_or_ge 100000 (now + v) with hs | hs
          · exact rl_turnB hL hk (by omega) hkd (r := -4) (by decide) (fun post u C h H => rl_passF hv hs h H) hc hd hJ _ (fun f0 a1 a2 a3 a4 a5 a6 a7 a8 a9 a10 a11 a12 a13 a14 W => br_f k11 (br_t (by decide) W))
          · refine rl_c_pass (by omega) hkd (fun post' hp => rl_pass hv hs hc (fun u' hu => hp _ _ ?_))
            obtain ⟨f1, c1, c2, c3, c4, c5, c6, c7, c8, c9, c10, c11, c12, c13, c14⟩ := u'
            obtain ⟨j, hj, ej⟩ := pk_andE (xs (k + 3)) (m := 2147483647) 31 (by decide)
            have hlt : j % (v + 1) < v + 1 := Nat.mod_lt _ (by omega)
            have eh : nI j - nI j / (nI v + 1) * (nI v + 1) = nI (j % (v + 1)) := by
              rw [nI_1]
              exact pk_rem hj (by omega) (by omega)
            refine br_f k11 (br_f (nI_pos (by omega)) ⟨pk_in (k + 3) L (by omega) (nI_add k 3), by rw [nI_1]; exact nI_ne0 (by omega) (by omega), ?_⟩)
            rw [ej]
            refine nm_r eh (rl_pass (by omega) (by omega) hd (fun u' hv1 => ?_))
            obtain ⟨g1, d1, d2, d3, d4, d5, d6, d7, d8, d9, d10, d11, d12, d13, d14⟩ := u'
            refine rl_pass (n := 0) (by omega) (by omega) hv1 (fun u' hv2 => ?_)
            obtain ⟨g2, e1, e2, e3, e4, e5, e6, e7, e8, e9, e10, e11, e12, e13, e14⟩ := u'
            rw [pk_sub (show j % (v + 1) ≤ v by omega)]
            refine rl_pass (by omega) (by omega) hv2 (fun u' hv3 => ?_)
            obtain ⟨g3, l1, l2, l3, l4, l5, l6, l7, l8, l9, l10, l11, l12, l13, l14⟩ := u'
            have en : now + j % (v + 1) + 0 + (v - j % (v + 1)) = now + v := by omega
            have hv4 := rl_cg (fun i _ => rl_tt3 (show j % (v + 1) ≤ v by omega) (P i)) hv3
            rw [en] at hv4 ⊢
            exact br_t rfl (nm_r (nI_add k 4) (hJ (now + v) _ f1 c1 c2 c3 c4 c5 c6 c7 c8 c9 c10 c11 c12 c13 c14 g3 l1 l2 l3 l4 l5 l6 l7 l8 l9 l10 l11 l12 l13 l14 hu hv4))
theorem i_vc (xs : Nat → Int32) (L : Nat) (hL : L ≤ 260) : wpL_law (fun r => r = 1) L xs := by
  unfold wpL_law
  refine ⟨14, 304, by decide, by decide, rl_init (fun u hu => ?_)⟩
  obtain ⟨f0, a1, a2, a3, a4, a5, a6, a7, a8, a9, a10, a11, a12, a13, a14⟩ := u
  refine ⟨by decide, by decide, 14, 304, by decide, by decide, rl_init (fun u hv => ?_)⟩
  obtain ⟨g0, b1, b2, b3, b4, b5, b6, b7, b8, b9, b10, b11, b12, b13, b14⟩ := u
  exact ⟨L + 1, rl_18 hL (L + 1) 0 0 rl_P0 f0 a1 a2 a3 a4 a5 a6 a7 a8 a9 a10 a11 a12 a13 a14 g0 b1 b2 b3 b4 b5 b6 b7 b8 b9 b10 b11 b12 b13 b14 (by omega) (by omega) hu hv⟩
end
