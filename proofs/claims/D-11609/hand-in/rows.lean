section
/-- the last place ahead of n where f holds i, plus one; 0: there is none -/
def td_lb (f : Nat → Nat) : Nat → Nat → Nat
  | 0, _ => 0
  | n + 1, i => if f n = i then n + 1 else td_lb f n i
theorem td_lb_s {f : Nat → Nat} {n i : Nat} : td_lb f (n + 1) i = if f n = i then n + 1 else td_lb f n i := rfl
theorem td_lb_le (f : Nat → Nat) (n i : Nat) : td_lb f n i ≤ n := by
  induction n with
  | zero => exact Nat.le_refl 0
  | succ n ih =>
    rw [td_lb_s]
    split <;> omega
theorem td_lb_hit {f : Nat → Nat} {n i c : Nat} (h : td_lb f n i = c + 1) : f c = i ∧ c < n := by
  induction n with
  | zero => exact absurd h (by simp [td_lb])
  | succ n ih =>
    rw [td_lb_s] at h
    by_cases e : f n = i
    · rw [if_pos e] at h
      have : n = c := by omega
      subst this
      exact ⟨e, by omega⟩
    · rw [if_neg e] at h
      exact ⟨(ih h).1, by have := (ih h).2; omega⟩
theorem td_lb_low {f : Nat → Nat} {m i : Nat} : ∀ n, m ≤ n → td_lb f n i ≤ m → td_lb f n i = td_lb f m i := by
  intro n
  induction n with
  | zero =>
    intro h _
    have : m = 0 := by omega
    rw [this]
  | succ n ih =>
    intro h h2
    by_cases e : m = n + 1
    · rw [e]
    · rw [td_lb_s] at h2 ⊢
      by_cases g : f n = i
      · rw [if_pos g] at h2
        exact absurd h2 (by omega)
      · rw [if_neg g] at h2 ⊢
        exact ih (by omega) h2
theorem td_lb_no {f : Nat → Nat} {i : Nat} : ∀ n s, td_lb f n i ≤ s → s < n → f s ≠ i := by
  intro n
  induction n with
  | zero => intro s _ h; exact absurd h (by omega)
  | succ n ih =>
    intro s h hs
    rw [td_lb_s] at h
    by_cases g : f n = i
    · rw [if_pos g] at h
      exact absurd h (by omega)
    · rw [if_neg g] at h
      by_cases e : s = n
      · rw [e]; exact g
      · exact ih s h (by omega)
/-- the same on the fourteen places -/
def td_M (f g : Nat → Int32) : Prop := ∀ j, j < 14 → f j = g j
/-- what the object has kept of the steps up to time t: V s the place that step s + 1 wrote (14: none), Q s the number at time s, N s the places at time s -/
def td_H (V Q : Nat → Nat) (N : Nat → Nat → Int32) (t : Nat) (a6 a7 a8 a9 a10 a11 a12 a13 a14 : Nat → Int32) : Prop :=
  (∀ s, s < t → (V s = 14 ∧ a6 (s + 1) = -1) ∨ (V s < 14 ∧ a6 (s + 1) = nI (V s) ∧ a7 (s + 1) = N s (V s) ∧ a8 (s + 1) = N (s + 1) (V s) ∧ a9 (s + 1) = nI (td_lb V s (V s)))) ∧
  (∀ s, s ≤ t → a10 s = nI (Q s) ∧ a11 s = nI (td_lb Q s (Q s)) - 1) ∧
  (∀ j, j < 14 → a12 j = nI (td_lb V t j)) ∧
  (∀ i, i < 21 → a13 i = nI (td_lb Q (t + 1) i) - 1) ∧
  td_M a14 (N 0)
/-- a step changes no other place than the one it wrote -/
def td_F (V : Nat → Nat) (N : Nat → Nat → Int32) (t : Nat) : Prop := ∀ s, s < t → ∀ j, j < 14 → j ≠ V s → N (s + 1) j = N s j
theorem td_fill {f s : Nat → Int32} {i k : Nat} {x : Int32} (hk : k = i) (h : ∀ j, j < i → s j = f j) (hx : x = f i) : ∀ j, j < i + 1 → upd s k x j = f j := by
  intro j hj
  rw [hk]
  by_cases e : j = i
  · rw [e, pk_us, hx]
  · rw [pk_un e]
    exact h j (by omega)
theorem td_n8 : ∀ n, n < 32 → (nI n).toInt8.toInt32 = nI n := by decide +kernel
theorem td_n16 : ∀ n, n < 64 → (nI n).toInt16.toInt32 = nI n := by decide +kernel
theorem td_m16 : ∀ n, n < 64 → (nI n - 1).toInt16.toInt32 = nI n - 1 := by decide +kernel
theorem td_v16 {n : Nat} (h : n < 64) : vp_nar .short (nI n) = nI n := by rw [vp_nar_short]; exact td_n16 n h
theorem td_w16 {n : Nat} (h : n < 64) : vp_nar .short (nI n - 1) = nI n - 1 := by rw [vp_nar_short]; exact td_m16 n h
theorem td_neg1 : (-1 : Int32) < 0 := by decide
end
section
theorem td_gap {post : Int32 → Prop} {ln iv pr tt : Int32} {a1 a2 a3 a4 a5 a6 a7 a8 a9 a10 a11 a12 a13 a14 : Nat → Int32} {a b : Nat} (ha : a < 2 ^ 31) (hb : b < 2 ^ 31) (h : post (nI ((a - b) + (b - a)))) : wpX_gap post (ln, iv, pr, tt, a1, a2, a3, a4, a5, a6, a7, a8, a9, a10, a11, a12, a13, a14) (nI a) (nI b) := by
  unfold wpX_gap
  refine pk_le b a (fun z => ?_) (fun z => ?_)
  · rw [pk_sub z]
    rw [show b - a = 0 by omega] at h
    exact h
  · rw [pk_sub (show a ≤ b by omega)]
    rw [show a - b = 0 by omega, Nat.zero_add] at h
    exact h
theorem td_redo {post : St2 → Prop} {ln iv tt : Int32} {a1 a2 a3 a4 a5 a6 a7 a8 a9 a10 a11 a12 a13 a14 : Nat → Int32} {p w : Nat} (hp : p + 1 < 201) (hw : (w = 14 ∧ a6 (p + 1) = -1 ∧ post (ln, iv, nI (p + 1), tt, a1, a2, a3, a4, a5, a6, a7, a8, a9, a10, a11, a12, a13, a14)) ∨ (w < 14 ∧ a6 (p + 1) = nI w ∧ post (ln, iv, nI (p + 1), tt, a1, a2, a3, a4, upd a5 w (a8 (p + 1)), a6, a7, a8, a9, a10, a11, a12, a13, a14))) : wpX_redo post (ln, iv, nI p, tt, a1, a2, a3, a4, a5, a6, a7, a8, a9, a10, a11, a12, a13, a14) := by
  unfold wpX_redo
  dsimp only
  refine nm_r (nI_1 p) ⟨pk_in (p + 1) 201 hp, ?_⟩
  rw [nI_clamp (show p + 1 < 2 ^ 31 by omega)]
  rcases hw with ⟨_, h6, h⟩ | ⟨hw, h6, h⟩
  · exact br_t (by rw [h6]; exact td_neg1) h
  · refine br_f (by rw [h6]; exact nI_pos (by omega)) ⟨pk_in (p + 1) 201 hp, pk_in (p + 1) 201 hp, by rw [h6]; exact vp_in_nI hw (by omega), ?_⟩
    rw [h6, nI_clamp (show w < 2 ^ 31 by omega)]
    exact nm_e h
theorem td_undo {post : St2 → Prop} {ln iv tt : Int32} {a1 a2 a3 a4 a5 a6 a7 a8 a9 a10 a11 a12 a13 a14 : Nat → Int32} {p w : Nat} (hp : p + 1 < 201) (hw : (w = 14 ∧ a6 (p + 1) = -1 ∧ post (ln, iv, nI p, tt, a1, a2, a3, a4, a5, a6, a7, a8, a9, a10, a11, a12, a13, a14)) ∨ (w < 14 ∧ a6 (p + 1) = nI w ∧ post (ln, iv, nI p, tt, a1, a2, a3, a4, upd a5 w (a7 (p + 1)), a6, a7, a8, a9, a10, a11, a12, a13, a14))) : wpX_undo post (ln, iv, nI (p + 1), tt, a1, a2, a3, a4, a5, a6, a7, a8, a9, a10, a11, a12, a13, a14) := by
  unfold wpX_undo
  dsimp only
  refine ⟨pk_in (p + 1) 201 hp, ?_⟩
  rw [nI_clamp (show p + 1 < 2 ^ 31 by omega)]
  rcases hw with ⟨_, h6, h⟩ | ⟨hw, h6, h⟩
  · exact br_t (by rw [h6]; exact td_neg1) (nm_r (nI_pred p) h)
  · refine br_f (by rw [h6]; exact nI_pos (by omega)) ⟨pk_in (p + 1) 201 hp, pk_in (p + 1) 201 hp, by rw [h6]; exact vp_in_nI hw (by omega), ?_⟩
    rw [h6, nI_clamp (show w < 2 ^ 31 by omega)]
    exact nm_e (nm_r (nI_pred p) h)
theorem td_load {post : St2 → Prop} {ln iv pr tt : Int32} {a1 a2 a3 a4 a5 a6 a7 a8 a9 a10 a11 a12 a13 a14 : Nat → Int32} (H : ∀ b5, td_M b5 a14 → post (ln, iv, nI 0, tt, a1, a2, a3, a4, b5, a6, a7, a8, a9, a10, a11, a12, a13, a14)) : wpX_load post (ln, iv, pr, tt, a1, a2, a3, a4, a5, a6, a7, a8, a9, a10, a11, a12, a13, a14) (nI 0) := by
  unfold wpX_load
  refine pk_loop (fun n i s => wX_load_2 post (nI 0) ln iv pr tt n (nI i) a1 a2 a3 a4 s a6 a7 a8 a9 a10 a11 a12 a13 a14) (fun i s => ∀ j, j < i → s j = a14 j) 14 0 a5 (by omega) (fun j hj => absurd hj (by omega)) ?_ ?_
  · intro n s h
    exact pk_le 14 14 (fun _ => nm_r (by decide) (H s h)) (fun z => absurd z (by omega))
  · intro n i s hi h hw
    have e : 14 * nI 0 + nI i = nI i := by
      rw [nI_0]
      show (0 : Int32) + nI i = nI i
      exact Int32.zero_add _
    refine pk_le 14 i (fun z => absurd z (by omega)) (fun _ => And.intro (by rw [e]; exact vp_in_nI (by omega) (by omega)) (And.intro (vp_in_nI hi (by omega)) (nm_e (nm_r (nI_1 i) (hw _ ?_)))))
    rw [e]
    exact td_fill (nI_clamp (by omega)) h (by rw [nI_clamp (by omega)])
theorem td_63 {post : St2 → Prop} {V Q : Nat → Nat} {N : Nat → Nat → Int32} {T t : Nat} {ln iv : Int32} {a1 a2 a3 a4 a6 a7 a8 a9 a10 a11 a12 a13 a14 : Nat → Int32} (hT : T < 200) (ht : t ≤ T) (hH : td_H V Q N T a6 a7 a8 a9 a10 a11 a12 a13 a14) (hF : td_F V N T)
    (H : ∀ b5, td_M b5 (N t) → post (ln, iv, nI t, nI T, a1, a2, a3, a4, b5, a6, a7, a8, a9, a10, a11, a12, a13, a14)) : ∀ d p (a5 : Nat → Int32), p + d = t → td_M a5 (N p) → wX_travel_63 post (nI t) (d + 1) ln iv (nI p) (nI T) a1 a2 a3 a4 a5 a6 a7 a8 a9 a10 a11 a12 a13 a14 := by
  intro d
  induction d with
  | zero =>
    intro p a5 hp hM
    have e : p = t := by omega
    subst e
    exact pk_le p p (fun _ => H a5 hM) (fun z => absurd z (by omega))
  | succ d ih =>
    intro p a5 hp hM
    refine pk_le t p (fun z => absurd z (by omega)) (fun _ => ?_)
    refine td_redo (w := V p) (by omega) ?_
    rcases hH.1 p (by omega) with ⟨hv, h6⟩ | ⟨hv, h6, h7, h8, h9⟩
    · refine Or.inl ⟨hv, h6, ih (p + 1) a5 (by omega) (fun j hj => ?_)⟩
      rw [hM j hj, hF p (by omega) j hj (by omega)]
    · refine Or.inr ⟨hv, h6, ih (p + 1) _ (by omega) (fun j hj => ?_)⟩
      by_cases e : j = V p
      · rw [e, pk_us, h8]
      · rw [pk_un e, hM j hj, hF p (by omega) j hj e]
theorem td_48 {post : St2 → Prop} {V Q : Nat → Nat} {N : Nat → Nat → Int32} {T t : Nat} {ln iv : Int32} {a1 a2 a3 a4 a6 a7 a8 a9 a10 a11 a12 a13 a14 : Nat → Int32} (hT : T < 200) (ht : t ≤ T) (hH : td_H V Q N T a6 a7 a8 a9 a10 a11 a12 a13 a14) (hF : td_F V N T)
    (H : ∀ b5, td_M b5 (N t) → post (ln, iv, nI t, nI T, a1, a2, a3, a4, b5, a6, a7, a8, a9, a10, a11, a12, a13, a14)) : ∀ d p (a5 : Nat → Int32), p ≤ T → p - t ≤ d → td_M a5 (N p) → wX_travel_48 post (nI t) (d + 1) ln iv (nI p) (nI T) a1 a2 a3 a4 a5 a6 a7 a8 a9 a10 a11 a12 a13 a14 := by
  intro d
  induction d with
  | zero =>
    intro p a5 hp hd hM
    exact pk_le p t (fun z => ⟨_, td_63 hT ht hH hF H (t - p) p a5 (by omega) hM⟩) (fun z => absurd z (by omega))
  | succ d ih =>
    intro p a5 hp hd hM
    refine pk_le p t (fun z => ⟨_, td_63 hT ht hH hF H (t - p) p a5 (by omega) hM⟩) (fun z => ?_)
    obtain ⟨q, rfl⟩ : ∃ q, p = q + 1 := ⟨p - 1, by omega⟩
    refine td_undo (w := V q) (by omega) ?_
    rcases hH.1 q (by omega) with ⟨hv, h6⟩ | ⟨hv, h6, h7, h8, h9⟩
    · refine Or.inl ⟨hv, h6, ih q a5 (by omega) (by omega) (fun j hj => ?_)⟩
      rw [hM j hj, hF q (by omega) j hj (by omega)]
    · refine Or.inr ⟨hv, h6, ih q _ (by omega) (by omega) (fun j hj => ?_)⟩
      by_cases e : j = V q
      · rw [e, pk_us, h7]
      · rw [pk_un e, hM j hj, hF q (by omega) j hj e]
theorem td_22 {post : St2 → Prop} {ln iv : Int32} {a1 a2 a3 a4 a5 a6 a7 a8 a9 a10 a11 a12 a13 a14 : Nat → Int32} {V Q : Nat → Nat} {N : Nat → Nat → Int32} {T p t : Nat} (hT : T < 200) (hp : p ≤ T) (ht : t ≤ T) (hH : td_H V Q N T a6 a7 a8 a9 a10 a11 a12 a13 a14) (hF : td_F V N T) (hM : td_M a5 (N p))
    (H : ∀ b5, td_M b5 (N t) → post (ln, iv, nI t, nI T, a1, a2, a3, a4, b5, a6, a7, a8, a9, a10, a11, a12, a13, a14)) : wX_travel_22 post (nI t) (nI 0) ln iv (nI p) (nI T) a1 a2 a3 a4 a5 a6 a7 a8 a9 a10 a11 a12 a13 a14 := by
  unfold wX_travel_22
  have e : nI 0 * 50 = nI 0 := by decide
  rw [e]
  refine td_gap (by omega) (by omega) (td_gap (by omega) (by omega) ?_)
  refine pk_le _ _ (fun z => ⟨_, td_48 hT ht hH hF H _ p a5 hp (Nat.le_refl _) hM⟩) (fun z => ?_)
  refine td_load (fun b5 hb => ⟨_, td_48 hT ht hH hF H _ 0 b5 (by omega) (Nat.le_refl _) (fun j hj => ?_)⟩)
  rw [hb j hj, hH.2.2.2.2 j hj]
theorem td_travel {post : St2 → Prop} {ln iv : Int32} {a1 a2 a3 a4 a5 a6 a7 a8 a9 a10 a11 a12 a13 a14 : Nat → Int32} {V Q : Nat → Nat} {N : Nat → Nat → Int32} {T p t : Nat} (hT : T < 50) (hp : p ≤ T) (ht : t ≤ T) (hH : td_H V Q N T a6 a7 a8 a9 a10 a11 a12 a13 a14) (hF : td_F V N T) (hM : td_M a5 (N p))
    (H : ∀ b5, td_M b5 (N t) → post (ln, iv, nI t, nI T, a1, a2, a3, a4, b5, a6, a7, a8, a9, a10, a11, a12, a13, a14)) : wpX_travel post (ln, iv, nI p, nI T, a1, a2, a3, a4, a5, a6, a7, a8, a9, a10, a11, a12, a13, a14) (nI t) := by
  unfold wpX_travel
  dsimp only
  refine ⟨by decide, ?_⟩
  have e : (nI t + 25) / 50 = nI ((t + 25) / 50) := by
    rw [show (25 : Int32) = nI 25 from rfl, show (50 : Int32) = nI 50 from rfl, nI_add]
    exact pk_div (by omega) (by omega) (by omega)
  refine nm_r e ?_
  have h22 := td_22 (post := post) (ln := ln) (iv := iv) (a1 := a1) (a2 := a2) (a3 := a3) (a4 := a4) (show T < 200 by omega) hp ht hH hF hM H
  by_cases z : t < 25
  · rw [show (t + 25) / 50 = 0 by omega]
    exact br_t (show nI 0 * 50 ≤ nI T from nI_le (a := 0) (by omega) (by omega)) h22
  · rw [show (t + 25) / 50 = 1 by omega]
    exact br_f (show ¬ nI 1 * 50 ≤ nI T from nI_ge (b := 50) (by omega) (by decide)) (nm_r (show nI 1 + (-1) = nI 0 from pk_m1 0) h22)
end
section
theorem td_note44 {post : St2 → Prop} {ln iv pr tt : Int32} {a1 a2 a3 a4 a5 a6 a7 a8 a9 a10 a11 a12 a13 a14 : Nat → Int32} (H : ∀ b14, td_M b14 a5 → post (ln, iv, pr, tt, a1, a2, a3, a4, a5, a6, a7, a8, a9, a10, a11, a12, a13, b14)) : ∃ n, wX_noteTime_44 post (nI 0) ln iv pr tt n 0 a1 a2 a3 a4 a5 a6 a7 a8 a9 a10 a11 a12 a13 a14 := by
  refine pk_loop (fun n i s => wX_noteTime_44 post (nI 0) ln iv pr tt n (nI i) a1 a2 a3 a4 a5 a6 a7 a8 a9 a10 a11 a12 a13 s) (fun i s => ∀ j, j < i → s j = a5 j) 14 0 a14 (by omega) (fun j hj => absurd hj (by omega)) ?_ ?_
  · intro n s h
    exact pk_le 14 14 (fun _ => H s h) (fun z => absurd z (by omega))
  · intro n i s hi h hw
    have e : 14 * nI 0 + nI i = nI i := by
      rw [nI_0]
      show (0 : Int32) + nI i = nI i
      exact Int32.zero_add _
    refine pk_le 14 i (fun z => absurd z (by omega)) (fun _ => And.intro (vp_in_nI hi (by omega)) (And.intro (by rw [e]; exact vp_in_nI (by omega) (by omega)) (nm_e (nm_r (nI_1 i) (hw _ ?_)))))
    rw [e]
    exact td_fill (nI_clamp (by omega)) h (by rw [nI_clamp (by omega)])
theorem td_note0 {post : St2 → Prop} {ln iv pr tt : Int32} {a1 a2 a3 a4 a5 a6 a7 a8 a9 a10 a11 a12 a13 a14 : Nat → Int32} {q c : Nat} (hq : q < 21) (hc : c < 64) (h13 : a13 q = nI c - 1)
    (H : ∀ b14, td_M b14 a5 → post (ln, iv, pr, tt, a1, a2, a3, a4, a5, a6, a7, a8, a9, upd a10 0 (nI q), upd a11 0 (nI c - 1), a12, upd a13 q (nI 0), b14)) : wpX_noteTime post (ln, iv, pr, tt, a1, a2, a3, a4, a5, a6, a7, a8, a9, a10, a11, a12, a13, a14) (nI 0) (nI q) := by
  unfold wpX_noteTime
  dsimp only
  rw [nI_clamp (show q < 2 ^ 31 by omega), nI_clamp (show 0 < 2 ^ 31 by omega), td_n8 q (by omega), td_n16 0 (by omega), h13, td_w16 hc]
  refine ⟨pk_in 0 201 (by omega), nm_e ⟨pk_in q 21 hq, pk_in 0 201 (by omega), nm_e ⟨pk_in q 21 hq, nm_e ⟨by decide, br_t (by decide) ⟨by decide, nm_r (show nI 0 / 50 = nI 0 by decide) (td_note44 H)⟩⟩⟩⟩⟩
theorem td_noteS {post : St2 → Prop} {ln iv pr tt : Int32} {a1 a2 a3 a4 a5 a6 a7 a8 a9 a10 a11 a12 a13 a14 : Nat → Int32} {t q c : Nat} (ht0 : 0 < t) (ht : t < 50) (hq : q < 21) (hc : c < 64) (h13 : a13 q = nI c - 1)
    (H : post (ln, iv, pr, tt, a1, a2, a3, a4, a5, a6, a7, a8, a9, upd a10 t (nI q), upd a11 t (nI c - 1), a12, upd a13 q (nI t), a14)) : wpX_noteTime post (ln, iv, pr, tt, a1, a2, a3, a4, a5, a6, a7, a8, a9, a10, a11, a12, a13, a14) (nI t) (nI q) := by
  unfold wpX_noteTime
  dsimp only
  rw [nI_clamp (show q < 2 ^ 31 by omega), nI_clamp (show t < 2 ^ 31 by omega), td_n8 q (by omega), td_n16 t (by omega), h13, td_w16 hc]
  have e : nI t - nI t / 50 * 50 = nI t := by
    have := pk_rem (a := t) (d := 50) (by omega) (by omega) (by omega)
    rw [show t % 50 = t by omega] at this
    exact this
  refine ⟨pk_in t 201 (by omega), nm_e ⟨pk_in q 21 hq, pk_in t 201 (by omega), nm_e ⟨pk_in q 21 hq, nm_e ⟨by decide, br_f (by rw [e]; exact nI_ne0 ht0 (by omega)) H⟩⟩⟩⟩
theorem td_store {post : St2 → Prop} {ln iv pr : Int32} {a1 a2 a3 a4 a5 a6 a7 a8 a9 a10 a11 a12 a13 a14 : Nat → Int32} {t w c : Nat} {y : Int32} (ht : t < 64) (hw : w < 14) (hc : c < 64) (h12 : a12 w = nI c)
    (H : post (ln, iv, pr, nI t, a1, a2, a3, a4, upd a5 w y, upd a6 t (nI w), upd a7 t (a5 w), upd a8 t y, upd a9 t (nI c), a10, a11, upd a12 w (nI t), a13, a14)) : wpX_store post (ln, iv, pr, nI t, a1, a2, a3, a4, a5, a6, a7, a8, a9, a10, a11, a12, a13, a14) (nI w) y := by
  unfold wpX_store
  dsimp only
  rw [nI_clamp (show w < 2 ^ 31 by omega), nI_clamp (show t < 2 ^ 31 by omega), td_n8 w (by omega), td_n16 t (by omega), h12, td_v16 hc]
  exact ⟨pk_in t 201 (by omega), nm_e ⟨pk_in w 14 hw, pk_in t 201 (by omega), nm_e ⟨pk_in t 201 (by omega), nm_e ⟨pk_in w 14 hw, pk_in t 201 (by omega), nm_e ⟨pk_in w 14 hw, nm_e ⟨pk_in w 14 hw, nm_e H⟩⟩⟩⟩⟩⟩
end
section
theorem td_pSet {post : Int32 → St2 → Prop} {ln iv pr : Int32} {a1 a2 a3 a4 a5 a6 a7 a8 a9 a10 a11 a12 a13 a14 : Nat → Int32} {q t w c : Nat} {y : Int32} (hq : q < 20) (h1 : a1 q = 0) (h2 : a2 q = nI w) (h3 : a3 q = y) (ht : t < 64) (hw : w < 14) (hc : c < 64) (h12 : a12 w = nI c)
    (H : post (nI (q + 1)) (ln, iv, pr, nI t, a1, a2, a3, a4, upd a5 w y, upd a6 t (nI w), upd a7 t (a5 w), upd a8 t y, upd a9 t (nI c), a10, a11, upd a12 w (nI t), a13, a14)) : wpX_perform post (ln, iv, pr, nI t, a1, a2, a3, a4, a5, a6, a7, a8, a9, a10, a11, a12, a13, a14) (nI q) := by
  unfold wpX_perform
  dsimp only
  rw [nI_clamp (show q < 2 ^ 31 by omega), h1, h2, h3, nI_1]
  refine ⟨pk_in q 20 hq, nm_e ⟨pk_in q 20 hq, nm_e ⟨pk_in q 20 hq, nm_e ?_⟩⟩⟩
  exact br_f (by decide) (br_f (by decide) (br_f (by decide) (br_t rfl (td_store ht hw hc h12 H))))
theorem td_pPut {post : Int32 → St2 → Prop} {ln iv pr : Int32} {a1 a2 a3 a4 a5 a6 a7 a8 a9 a10 a11 a12 a13 a14 : Nat → Int32} {q t w c x y b : Nat} (hq : q < 20) (h1 : a1 q = 5) (h2 : a2 q = nI x) (h3 : a3 q = nI y) (ht : t < 64) (hx : x < 14) (hy : y < 14) (hb : a5 y = nI b) (hb2 : b < 64) (hw : w = 6 + b % 8) (hc : c < 64) (h12 : a12 w = nI c)
    (H : post (nI (q + 1)) (ln, iv, pr, nI t, a1, a2, a3, a4, upd a5 w (a5 x), upd a6 t (nI w), upd a7 t (a5 w), upd a8 t (a5 x), upd a9 t (nI c), a10, a11, upd a12 w (nI t), a13, a14)) : wpX_perform post (ln, iv, pr, nI t, a1, a2, a3, a4, a5, a6, a7, a8, a9, a10, a11, a12, a13, a14) (nI q) := by
  have e : 6 + (nI b &&& 7) = nI w := by
    rw [pk_andN (show b < 2 ^ 32 by omega) 3 (by decide), show (6 : Int32) = nI 6 from rfl, nI_add, hw]
  unfold wpX_perform
  dsimp only
  rw [nI_clamp (show q < 2 ^ 31 by omega), h1, h2, h3, nI_1]
  refine ⟨pk_in q 20 hq, nm_e ⟨pk_in q 20 hq, nm_e ⟨pk_in q 20 hq, nm_e ?_⟩⟩⟩
  refine br_f (by decide) (br_f (by decide) (br_f (by decide) (br_f (by decide) (br_f (by decide) (br_t rfl ?_)))))
  rw [nI_clamp (show y < 2 ^ 31 by omega), nI_clamp (show x < 2 ^ 31 by omega), hb, e]
  exact ⟨vp_in_nI hy (by omega), vp_in_nI hx (by omega), td_store ht (by omega) hc h12 H⟩
theorem td_pAdd {post : Int32 → St2 → Prop} {ln iv pr : Int32} {a1 a2 a3 a4 a5 a6 a7 a8 a9 a10 a11 a12 a13 a14 : Nat → Int32} {q t w c y z : Nat} (hq : q < 20) (h1 : a1 q = 1) (h2 : a2 q = nI w) (h3 : a3 q = nI y) (h4 : a4 q = nI z) (ht : t < 64) (hw : w < 14) (hy : y < 14) (hz : z < 14) (hc : c < 64) (h12 : a12 w = nI c)
    (H : post (nI (q + 1)) (ln, iv, pr, nI t, a1, a2, a3, a4, upd a5 w (a5 y + a5 z), upd a6 t (nI w), upd a7 t (a5 w), upd a8 t (a5 y + a5 z), upd a9 t (nI c), a10, a11, upd a12 w (nI t), a13, a14)) : wpX_perform post (ln, iv, pr, nI t, a1, a2, a3, a4, a5, a6, a7, a8, a9, a10, a11, a12, a13, a14) (nI q) := by
  unfold wpX_perform
  dsimp only
  rw [nI_clamp (show q < 2 ^ 31 by omega), h1, h2, h3, h4, nI_1]
  refine ⟨pk_in q 20 hq, nm_e ⟨pk_in q 20 hq, nm_e ⟨pk_in q 20 hq, nm_e ?_⟩⟩⟩
  refine br_f (by decide) (br_f (by decide) (br_f (by decide) (br_f (by decide) (br_f (by decide) (br_f (by decide) ?_)))))
  rw [nI_clamp (show y < 2 ^ 31 by omega), nI_clamp (show z < 2 ^ 31 by omega)]
  refine ⟨vp_in_nI hy (by omega), pk_in q 20 hq, vp_in_nI hz (by omega), ?_⟩
  unfold wpX_compute
  dsimp only
  refine br_t rfl ?_
  unfold wX_compute_28
  exact td_store ht hw hc h12 H
theorem td_pSub {post : Int32 → St2 → Prop} {ln iv pr : Int32} {a1 a2 a3 a4 a5 a6 a7 a8 a9 a10 a11 a12 a13 a14 : Nat → Int32} {q t w c y z : Nat} (hq : q < 20) (h1 : a1 q = 2) (h2 : a2 q = nI w) (h3 : a3 q = nI y) (h4 : a4 q = nI z) (ht : t < 64) (hw : w < 14) (hy : y < 14) (hz : z < 14) (hc : c < 64) (h12 : a12 w = nI c)
    (H : post (nI (q + 1)) (ln, iv, pr, nI t, a1, a2, a3, a4, upd a5 w (a5 y - a5 z), upd a6 t (nI w), upd a7 t (a5 w), upd a8 t (a5 y - a5 z), upd a9 t (nI c), a10, a11, upd a12 w (nI t), a13, a14)) : wpX_perform post (ln, iv, pr, nI t, a1, a2, a3, a4, a5, a6, a7, a8, a9, a10, a11, a12, a13, a14) (nI q) := by
  unfold wpX_perform
  dsimp only
  rw [nI_clamp (show q < 2 ^ 31 by omega), h1, h2, h3, h4, nI_1]
  refine ⟨pk_in q 20 hq, nm_e ⟨pk_in q 20 hq, nm_e ⟨pk_in q 20 hq, nm_e ?_⟩⟩⟩
  refine br_f (by decide) (br_f (by decide) (br_f (by decide) (br_f (by decide) (br_f (by decide) (br_f (by decide) ?_)))))
  rw [nI_clamp (show y < 2 ^ 31 by omega), nI_clamp (show z < 2 ^ 31 by omega)]
  refine ⟨vp_in_nI hy (by omega), pk_in q 20 hq, vp_in_nI hz (by omega), ?_⟩
  unfold wpX_compute
  dsimp only
  refine br_f (by decide) (br_t rfl ?_)
  unfold wX_compute_28
  exact td_store ht hw hc h12 H
theorem td_pIf {post : Int32 → St2 → Prop} {ln iv pr tt : Int32} {a1 a2 a3 a4 a5 a6 a7 a8 a9 a10 a11 a12 a13 a14 : Nat → Int32} {q x y b r : Nat} (hq : q < 20) (h1 : a1 q = 6) (h2 : a2 q = nI x) (h3 : a3 q = nI y) (hx : x < 14) (hb : a5 x = nI b) (hb2 : b < 64) (hr : r = if b = 0 then q + 1 else y)
    (H : post (nI r) (ln, iv, pr, tt, a1, a2, a3, a4, a5, a6, a7, a8, a9, a10, a11, a12, a13, a14)) : wpX_perform post (ln, iv, pr, tt, a1, a2, a3, a4, a5, a6, a7, a8, a9, a10, a11, a12, a13, a14) (nI q) := by
  unfold wpX_perform
  dsimp only
  rw [nI_clamp (show q < 2 ^ 31 by omega), h1, h2, h3, nI_1]
  refine ⟨pk_in q 20 hq, nm_e ⟨pk_in q 20 hq, nm_e ⟨pk_in q 20 hq, nm_e ?_⟩⟩⟩
  refine br_f (by decide) (br_f (by decide) (br_t rfl ?_))
  rw [nI_clamp (show x < 2 ^ 31 by omega), hb]
  refine ⟨vp_in_nI hx (by omega), ?_⟩
  refine pk_le b 0 (fun z => ?_) (fun z => ?_)
  · rw [if_pos (show b = 0 by omega)] at hr
    rw [← hr]
    exact H
  · rw [if_neg (show ¬ b = 0 by omega)] at hr
    rw [← hr]
    exact H
theorem td_pHalt {post : Int32 → St2 → Prop} {ln iv pr tt : Int32} {a1 a2 a3 a4 a5 a6 a7 a8 a9 a10 a11 a12 a13 a14 : Nat → Int32} {q : Nat} (hq : q < 20) (h1 : a1 q = 8) (H : post (nI q) (ln, iv, pr, tt, a1, a2, a3, a4, a5, a6, a7, a8, a9, a10, a11, a12, a13, a14)) : wpX_perform post (ln, iv, pr, tt, a1, a2, a3, a4, a5, a6, a7, a8, a9, a10, a11, a12, a13, a14) (nI q) := by
  unfold wpX_perform
  dsimp only
  rw [nI_clamp (show q < 2 ^ 31 by omega), h1]
  exact ⟨pk_in q 20 hq, nm_e ⟨pk_in q 20 hq, nm_e ⟨pk_in q 20 hq, nm_e (br_t rfl H)⟩⟩⟩
end
section
/-- the number that is next at time s, the program's count k -/
def td_Q (k s : Nat) : Nat := if s < 2 then s else if s - 2 < 4 * k then 2 + (s - 2) % 4 else 6
/-- the place that step s + 1 writes -/
def td_V (k s : Nat) : Nat := if s < 2 then s else if s - 2 < 4 * k then (if (s - 2) % 4 = 0 then 2 else if (s - 2) % 4 = 1 then 6 + (k - (s - 2) / 4) % 8 else if (s - 2) % 4 = 2 then 0 else 14) else 14
/-- how many steps of the loop lie behind time s -/
def td_I (k s : Nat) : Nat := if s - 2 < 4 * k then s - 2 else 4 * k
/-- how many times the input a place holds at time s, and what it holds beside that -/
def td_A (k s j : Nat) : Nat := if j = 2 then (td_I k s + 3) / 4 else if j = 5 then 1 else if j < 6 then 0 else if (if j = 6 then 8 else j - 6) ≤ k ∧ k + 1 - (if j = 6 then 8 else j - 6) ≤ (td_I k s + 2) / 4 then k + 1 - (if j = 6 then 8 else j - 6) else 0
def td_B (k s j : Nat) : Nat := if j = 0 then (if s = 0 then 0 else k - (td_I k s + 1) / 4) else if j = 1 then (if s < 2 then 0 else 1) else 0
def td_N (k : Nat) (v : Int32) (s j : Nat) : Int32 := nI (td_A k s j) * v + nI (td_B k s j)
/-- how many steps the program's first n rows take -/
def td_T (k n : Nat) : Nat := if n < 6 then n else if n = 6 then 2 + 4 * k else 3 + 4 * k
/-- the program -/
def td_o (i : Nat) : Nat := if i < 2 then 0 else if i = 2 then 1 else if i = 3 then 5 else if i = 4 then 2 else if i = 5 then 6 else 8
def td_x (i : Nat) : Nat := if i = 1 then 1 else if i = 2 then 2 else if i = 3 then 2 else 0
def td_y (k i : Nat) : Nat := if i = 0 then k else if i = 1 then 1 else if i = 2 then 2 else if i = 5 then 2 else 0
def td_z (i : Nat) : Nat := if i = 2 then 5 else if i = 4 then 1 else 0
def td_P (k n : Nat) (a1 a2 a3 a4 : Nat → Int32) : Prop := ∀ i, i < n → a1 i = nI (td_o i) ∧ a2 i = nI (td_x i) ∧ a3 i = nI (td_y k i) ∧ a4 i = nI (td_z i)
theorem td_frame' : ∀ k, k < 9 → ∀ s, s < 35 → ∀ j, j < 14 → (0 < k ∧ s < 3 + 4 * k ∧ j ≠ td_V k s) → (td_A k (s + 1) j = td_A k s j ∧ td_B k (s + 1) j = td_B k s j) := by decide +kernel
theorem td_frame : ∀ k, k < 9 → 0 < k → ∀ s, s < 35 → s < 3 + 4 * k → ∀ j, j < 14 → j ≠ td_V k s → td_A k (s + 1) j = td_A k s j ∧ td_B k (s + 1) j = td_B k s j := fun k hk h0 s hs h j hj e => td_frame' k hk s hs j hj ⟨h0, h, e⟩
theorem td_s0' : ∀ k, k < 9 → ∀ s, s < 35 → (0 < k ∧ s < 3 + 4 * k ∧ td_Q k s = 0) → (td_V k s = 0 ∧ td_Q k (s + 1) = 1 ∧ td_A k (s + 1) 0 = 0 ∧ td_B k (s + 1) 0 = k) := by decide +kernel
theorem td_s0 : ∀ k, k < 9 → 0 < k → ∀ s, s < 35 → s < 3 + 4 * k → td_Q k s = 0 → td_V k s = 0 ∧ td_Q k (s + 1) = 1 ∧ td_A k (s + 1) 0 = 0 ∧ td_B k (s + 1) 0 = k := fun k hk h0 s hs h e => td_s0' k hk s hs ⟨h0, h, e⟩
theorem td_s1' : ∀ k, k < 9 → ∀ s, s < 35 → (0 < k ∧ s < 3 + 4 * k ∧ td_Q k s = 1) → (td_V k s = 1 ∧ td_Q k (s + 1) = 2 ∧ td_A k (s + 1) 1 = 0 ∧ td_B k (s + 1) 1 = 1) := by decide +kernel
theorem td_s1 : ∀ k, k < 9 → 0 < k → ∀ s, s < 35 → s < 3 + 4 * k → td_Q k s = 1 → td_V k s = 1 ∧ td_Q k (s + 1) = 2 ∧ td_A k (s + 1) 1 = 0 ∧ td_B k (s + 1) 1 = 1 := fun k hk h0 s hs h e => td_s1' k hk s hs ⟨h0, h, e⟩
theorem td_s2' : ∀ k, k < 9 → ∀ s, s < 35 → (0 < k ∧ s < 3 + 4 * k ∧ td_Q k s = 2) → (td_V k s = 2 ∧ td_Q k (s + 1) = 3 ∧ td_A k (s + 1) 2 = td_A k s 2 + td_A k s 5 ∧ td_B k (s + 1) 2 = td_B k s 2 + td_B k s 5) := by decide +kernel
theorem td_s2 : ∀ k, k < 9 → 0 < k → ∀ s, s < 35 → s < 3 + 4 * k → td_Q k s = 2 → td_V k s = 2 ∧ td_Q k (s + 1) = 3 ∧ td_A k (s + 1) 2 = td_A k s 2 + td_A k s 5 ∧ td_B k (s + 1) 2 = td_B k s 2 + td_B k s 5 := fun k hk h0 s hs h e => td_s2' k hk s hs ⟨h0, h, e⟩
theorem td_s3' : ∀ k, k < 9 → ∀ s, s < 35 → (0 < k ∧ s < 3 + 4 * k ∧ td_Q k s = 3) → (td_V k s = 6 + td_B k s 0 % 8 ∧ td_Q k (s + 1) = 4 ∧ td_A k s 0 = 0 ∧ td_B k s 0 < 64 ∧ td_A k (s + 1) (td_V k s) = td_A k s 2 ∧ td_B k (s + 1) (td_V k s) = td_B k s 2) := by decide +kernel
theorem td_s3 : ∀ k, k < 9 → 0 < k → ∀ s, s < 35 → s < 3 + 4 * k → td_Q k s = 3 → td_V k s = 6 + td_B k s 0 % 8 ∧ td_Q k (s + 1) = 4 ∧ td_A k s 0 = 0 ∧ td_B k s 0 < 64 ∧ td_A k (s + 1) (td_V k s) = td_A k s 2 ∧ td_B k (s + 1) (td_V k s) = td_B k s 2 := fun k hk h0 s hs h e => td_s3' k hk s hs ⟨h0, h, e⟩
theorem td_s4' : ∀ k, k < 9 → ∀ s, s < 35 → (0 < k ∧ s < 3 + 4 * k ∧ td_Q k s = 4) → (td_V k s = 0 ∧ td_Q k (s + 1) = 5 ∧ td_B k s 0 = td_B k (s + 1) 0 + 1 ∧ td_B k s 1 = 1) := by decide +kernel
theorem td_s4 : ∀ k, k < 9 → 0 < k → ∀ s, s < 35 → s < 3 + 4 * k → td_Q k s = 4 → td_V k s = 0 ∧ td_Q k (s + 1) = 5 ∧ td_A k s 0 = 0 ∧ td_A k s 1 = 0 ∧ td_A k (s + 1) 0 = 0 ∧ td_B k s 0 = td_B k (s + 1) 0 + 1 ∧ td_B k s 1 = 1 := fun k hk h0 s hs h e => have g := td_s4' k hk s hs ⟨h0, h, e⟩; ⟨g.1, g.2.1, rfl, rfl, rfl, g.2.2⟩
theorem td_s5' : ∀ k, k < 9 → ∀ s, s < 35 → (0 < k ∧ s < 3 + 4 * k ∧ td_Q k s = 5) → (td_V k s = 14 ∧ (td_Q k (s + 1) = if td_B k s 0 = 0 then 5 + 1 else 2) ∧ td_A k s 0 = 0 ∧ td_B k s 0 < 64) := by decide +kernel
theorem td_s5 : ∀ k, k < 9 → 0 < k → ∀ s, s < 35 → s < 3 + 4 * k → td_Q k s = 5 → td_V k s = 14 ∧ (td_Q k (s + 1) = if td_B k s 0 = 0 then 5 + 1 else 2) ∧ td_A k s 0 = 0 ∧ td_B k s 0 < 64 := fun k hk h0 s hs h e => td_s5' k hk s hs ⟨h0, h, e⟩
theorem td_s6' : ∀ k, k < 9 → ∀ s, s < 35 → (0 < k ∧ s < 3 + 4 * k ∧ td_Q k s = 6) → (td_V k s = 14 ∧ td_Q k (s + 1) = 6) := by decide +kernel
theorem td_s6 : ∀ k, k < 9 → 0 < k → ∀ s, s < 35 → s < 3 + 4 * k → td_Q k s = 6 → td_V k s = 14 ∧ td_Q k (s + 1) = 6 := fun k hk h0 s hs h e => td_s6' k hk s hs ⟨h0, h, e⟩
theorem td_Tb : ∀ k, k < 9 → 0 < k → ∀ n, n < 8 → td_T k n < 36 ∧ td_T k n ≤ 3 + 4 * k := by decide +kernel
theorem td_Qn' : ∀ k, k < 9 → ∀ n, n < 8 → ∀ s, s < 35 → (0 < k ∧ s < td_T k n) → td_Q k s < n := by decide +kernel
theorem td_Qn2 : ∀ k, k < 9 → ∀ n, n < 8 → ∀ s, s < 35 → (0 < k ∧ s < td_T k n ∧ td_Q k s = 6) → s + 1 = td_T k n := by decide +kernel
theorem td_Qn3 : ∀ k, k < 9 → ∀ n, n < 8 → ∀ s, s < 35 → (0 < k ∧ s + 1 = td_T k n ∧ td_Q k s ≠ 6) → n ≤ td_Q k (s + 1) := by decide +kernel
theorem td_Qn : ∀ k, k < 9 → 0 < k → ∀ n, n < 8 → ∀ s, s < 35 → s < td_T k n → td_Q k s < n ∧ (td_Q k s = 6 → s + 1 = td_T k n) ∧ (s + 1 = td_T k n → td_Q k s ≠ 6 → n ≤ td_Q k (s + 1)) := fun k hk h0 n hn s hs h => ⟨td_Qn' k hk n hn s hs ⟨h0, h⟩, fun e => td_Qn2 k hk n hn s hs ⟨h0, h, e⟩, fun e g => td_Qn3 k hk n hn s hs ⟨h0, e, g⟩⟩
theorem td_T0 {k n : Nat} (h : td_T k n = 0) : n = 0 := by
  unfold td_T at h
  split at h
  · exact h
  · split at h <;> omega
theorem td_Q7 (k s : Nat) : td_Q k s < 7 := by
  unfold td_Q
  split
  · omega
  · split
    · have := Nat.mod_lt (s - 2) (show 0 < 4 by omega)
      omega
    · omega
theorem td_Nf {k s j : Nat} (v : Int32) (h : td_A k s j = 0) : td_N k v s j = nI (td_B k s j) := by
  unfold td_N
  rw [h, nI_0, Int32.zero_mul, Int32.zero_add]
theorem td_FN {k n : Nat} (v : Int32) (hk : k < 9) (hk0 : 0 < k) (hn : n < 8) : td_F (td_V k) (td_N k v) (td_T k n) := by
  intro s hs j hj hne
  have hT := td_Tb k hk hk0 n hn
  have h := td_frame k hk hk0 s (by omega) (by omega) j hj hne
  unfold td_N
  rw [h.1, h.2]
end
section
/-- what step s + 1 left: the record at s + 1, all earlier records as they were -/
def td_R (k s : Nat) (v : Int32) (a6 a7 a8 a9 b5 b6 b7 b8 b9 b12 : Nat → Int32) : Prop :=
  td_M b5 (td_N k v (s + 1)) ∧
  ((td_V k s = 14 ∧ b6 (s + 1) = -1) ∨ (td_V k s < 14 ∧ b6 (s + 1) = nI (td_V k s) ∧ b7 (s + 1) = td_N k v s (td_V k s) ∧ b8 (s + 1) = td_N k v (s + 1) (td_V k s) ∧ b9 (s + 1) = nI (td_lb (td_V k) s (td_V k s)))) ∧
  (∀ j, j ≠ s + 1 → b6 j = a6 j ∧ b7 j = a7 j ∧ b8 j = a8 j ∧ b9 j = a9 j) ∧
  (∀ j, j < 14 → b12 j = nI (td_lb (td_V k) (s + 1) j))
theorem td_Rw {k s w : Nat} {v y : Int32} {a5 a6 a7 a8 a9 a12 : Nat → Int32} (hf : ∀ j, j < 14 → j ≠ td_V k s → td_N k v (s + 1) j = td_N k v s j) (hM : td_M a5 (td_N k v s)) (h12 : ∀ j, j < 14 → a12 j = nI (td_lb (td_V k) s j))
    (hw : td_V k s = w) (hw14 : w < 14) (hy : y = td_N k v (s + 1) w) :
    td_R k s v a6 a7 a8 a9 (upd a5 w y) (upd a6 (s + 1) (nI w)) (upd a7 (s + 1) (a5 w)) (upd a8 (s + 1) y) (upd a9 (s + 1) (nI (td_lb (td_V k) s w))) (upd a12 w (nI (s + 1))) := by
  subst hw
  refine ⟨fun j hj => ?_, Or.inr ⟨hw14, pk_us, ?_, ?_, pk_us⟩, fun j hj => ⟨pk_un hj, pk_un hj, pk_un hj, pk_un hj⟩, fun j hj => ?_⟩
  · by_cases e : j = td_V k s
    · rw [e, pk_us, hy]
    · rw [pk_un e, hM j hj, hf j hj e]
  · rw [pk_us]
    exact hM _ hw14
  · rw [pk_us]
    exact hy
  · rw [td_lb_s]
    by_cases e : j = td_V k s
    · rw [if_pos e.symm, e, pk_us]
    · rw [if_neg (fun z => e z.symm), pk_un e]
      exact h12 j hj
theorem td_R0 {k s : Nat} {v : Int32} {a5 a6 a7 a8 a9 a12 : Nat → Int32} (hf : ∀ j, j < 14 → j ≠ td_V k s → td_N k v (s + 1) j = td_N k v s j) (hM : td_M a5 (td_N k v s)) (h12 : ∀ j, j < 14 → a12 j = nI (td_lb (td_V k) s j)) (h6 : a6 (s + 1) = -1)
    (hw : td_V k s = 14) : td_R k s v a6 a7 a8 a9 a5 a6 a7 a8 a9 a12 := by
  refine ⟨fun j hj => ?_, Or.inl ⟨hw, h6⟩, fun j hj => ⟨rfl, rfl, rfl, rfl⟩, fun j hj => ?_⟩
  · rw [hM j hj, hf j hj (by omega)]
  · rw [td_lb_s, if_neg (by omega)]
    exact h12 j hj
theorem td_perform {post : Int32 → St2 → Prop} {ln iv pr : Int32} {a1 a2 a3 a4 a5 a6 a7 a8 a9 a10 a11 a12 a13 a14 : Nat → Int32} {k n s : Nat} {v : Int32} (hk : k < 9) (hk0 : 0 < k) (hn : n < 8) (hs : s < td_T k n) (hP : td_P k n a1 a2 a3 a4) (hM : td_M a5 (td_N k v s)) (h12 : ∀ j, j < 14 → a12 j = nI (td_lb (td_V k) s j)) (h6 : a6 (s + 1) = -1)
    (H : ∀ b5 b6 b7 b8 b9 b12, td_R k s v a6 a7 a8 a9 b5 b6 b7 b8 b9 b12 → post (nI (td_Q k (s + 1))) (ln, iv, pr, nI (s + 1), a1, a2, a3, a4, b5, b6, b7, b8, b9, a10, a11, b12, a13, a14)) : wpX_perform post (ln, iv, pr, nI (s + 1), a1, a2, a3, a4, a5, a6, a7, a8, a9, a10, a11, a12, a13, a14) (nI (td_Q k s)) := by
  have hT := td_Tb k hk hk0 n hn
  have hQn := (td_Qn k hk hk0 n hn s (by omega) hs).1
  have hQ7 := td_Q7 k s
  have hf := td_FN v hk hk0 hn s hs
  have hlb : ∀ j, td_lb (td_V k) s j < 64 := fun j => by have := td_lb_le (td_V k) s j; omega
  have hs35 : s < 35 := by omega
  have hsk : s < 3 + 4 * k := by omega
  have hp := hP (td_Q k s) hQn
  have cs : td_Q k s = 0 ∨ td_Q k s = 1 ∨ td_Q k s = 2 ∨ td_Q k s = 3 ∨ td_Q k s = 4 ∨ td_Q k s = 5 ∨ td_Q k s = 6 := by omega
  rcases cs with e | e | e | e | e | e | e
  · obtain ⟨hv, hq, hA, hB⟩ := td_s0 k hk hk0 s hs35 hsk e
    rw [e] at hp ⊢
    refine td_pSet (w := 0) (y := nI k) (by omega) hp.1 hp.2.1 hp.2.2.1 (by omega) (by omega) (hlb 0) (h12 0 (by omega)) ?_
    rw [hq] at H
    exact H _ _ _ _ _ _ (td_Rw hf hM h12 hv (by omega) (by rw [td_Nf v hA, hB]))
  · obtain ⟨hv, hq, hA, hB⟩ := td_s1 k hk hk0 s hs35 hsk e
    rw [e] at hp ⊢
    refine td_pSet (w := 1) (y := nI 1) (by omega) hp.1 hp.2.1 hp.2.2.1 (by omega) (by omega) (hlb 1) (h12 1 (by omega)) ?_
    rw [hq] at H
    exact H _ _ _ _ _ _ (td_Rw hf hM h12 hv (by omega) (by rw [td_Nf v hA, hB]))
  · obtain ⟨hv, hq, hA, hB⟩ := td_s2 k hk hk0 s hs35 hsk e
    rw [e] at hp ⊢
    refine td_pAdd (w := 2) (y := 2) (z := 5) (by omega) hp.1 hp.2.1 hp.2.2.1 hp.2.2.2 (by omega) (by omega) (by omega) (by omega) (hlb 2) (h12 2 (by omega)) ?_
    rw [hq] at H
    refine H _ _ _ _ _ _ (td_Rw hf hM h12 hv (by omega) ?_)
    rw [hM 2 (by omega), hM 5 (by omega)]
    unfold td_N
    rw [hA, hB, ← nI_add, ← nI_add]
    grind
  · obtain ⟨hv, hq, hA0, hb, hA, hB⟩ := td_s3 k hk hk0 s hs35 hsk e
    rw [e] at hp ⊢
    have hw14 : td_V k s < 14 := by rw [hv]; omega
    refine td_pPut (w := td_V k s) (x := 2) (y := 0) (b := td_B k s 0) (by omega) hp.1 hp.2.1 hp.2.2.1 (by omega) (by omega) (by omega) (by rw [hM 0 (by omega), td_Nf v hA0]) hb hv (hlb _) (h12 _ hw14) ?_
    rw [hq] at H
    refine H _ _ _ _ _ _ (td_Rw hf hM h12 rfl hw14 ?_)
    rw [hM 2 (by omega)]
    unfold td_N
    rw [hA, hB]
  · obtain ⟨hv, hq, hA0, hA1, hA, hB, hB1⟩ := td_s4 k hk hk0 s hs35 hsk e
    rw [e] at hp ⊢
    refine td_pSub (w := 0) (y := 0) (z := 1) (by omega) hp.1 hp.2.1 hp.2.2.1 hp.2.2.2 (by omega) (by omega) (by omega) (by omega) (hlb 0) (h12 0 (by omega)) ?_
    rw [hq] at H
    refine H _ _ _ _ _ _ (td_Rw hf hM h12 hv (by omega) ?_)
    rw [hM 0 (by omega), hM 1 (by omega), td_Nf v hA0, td_Nf v hA1, td_Nf v hA, hB, hB1]
    exact nI_pred _
  · obtain ⟨hv, hq, hA0, hb⟩ := td_s5 k hk hk0 s hs35 hsk e
    rw [e] at hp ⊢
    exact td_pIf (x := 0) (y := 2) (b := td_B k s 0) (by omega) hp.1 hp.2.1 hp.2.2.1 (by omega) (by rw [hM 0 (by omega), td_Nf v hA0]) hb hq (H _ _ _ _ _ _ (td_R0 hf hM h12 h6 hv))
  · obtain ⟨hv, hq⟩ := td_s6 k hk hk0 s hs35 hsk e
    rw [e] at hp ⊢
    rw [hq] at H
    exact td_pHalt (by omega) hp.1 (H _ _ _ _ _ _ (td_R0 hf hM h12 h6 hv))
/-- the object's kept rows grow by a step -/
theorem td_Hs {k s : Nat} {v : Int32} {a6 a7 a8 a9 a10 a11 a12 a13 a14 b5 b6 b7 b8 b9 b12 : Nat → Int32} (hH : td_H (td_V k) (td_Q k) (td_N k v) s a6 a7 a8 a9 a10 a11 a12 a13 a14) (hR : td_R k s v (upd a6 (s + 1) (-1)) a7 a8 a9 b5 b6 b7 b8 b9 b12) :
    td_H (td_V k) (td_Q k) (td_N k v) (s + 1) b6 b7 b8 b9 (upd a10 (s + 1) (nI (td_Q k (s + 1)))) (upd a11 (s + 1) (nI (td_lb (td_Q k) (s + 1) (td_Q k (s + 1))) - 1)) b12 (upd a13 (td_Q k (s + 1)) (nI (s + 1))) a14 := by
  obtain ⟨h1, h2, h3, h4, h5⟩ := hH
  obtain ⟨_, r1, r2, r3⟩ := hR
  refine ⟨fun j hj => ?_, fun j hj => ?_, r3, fun i hi => ?_, h5⟩
  · by_cases e : j = s
    · rw [e]
      exact r1
    · have g := r2 (j + 1) (by omega)
      rw [g.1, g.2.1, g.2.2.1, g.2.2.2, pk_un (show j + 1 ≠ s + 1 by omega)]
      exact h1 j (by omega)
  · by_cases e : j = s + 1
    · rw [e, pk_us, pk_us]
      exact ⟨rfl, rfl⟩
    · rw [pk_un e, pk_un e]
      exact h2 j (by omega)
  · rw [td_lb_s]
    by_cases e : i = td_Q k (s + 1)
    · rw [if_pos e.symm, e, pk_us]
      exact (nI_pred (s + 1)).symm
    · rw [if_neg (fun z => e z.symm), pk_un e]
      exact h4 i hi
theorem td_79 {post : St2 → Prop} {k n : Nat} {v iv : Int32} {a1 a2 a3 a4 : Nat → Int32} (hk : k < 9) (hk0 : 0 < k) (hn : n < 8) (hP : td_P k n a1 a2 a3 a4)
    (H : ∀ b5 b6 b7 b8 b9 b10 b11 b12 b13 b14, td_M b5 (td_N k v 0) → td_H (td_V k) (td_Q k) (td_N k v) (td_T k n) b6 b7 b8 b9 b10 b11 b12 b13 b14 → post (nI n, iv, nI 0, nI (td_T k n), a1, a2, a3, a4, b5, b6, b7, b8, b9, b10, b11, b12, b13, b14)) :
    ∀ d s x2 a5 a6 a7 a8 a9 a10 a11 a12 a13 a14, s + d = td_T k n → ((s < td_T k n ∧ x2 = 1) ∨ (s = td_T k n ∧ (x2 = 0 ∨ n ≤ td_Q k s))) → td_M a5 (td_N k v s) → td_H (td_V k) (td_Q k) (td_N k v) s a6 a7 a8 a9 a10 a11 a12 a13 a14 →
      wX_execute_79 post (d + 1) (nI (td_Q k s)) x2 (nI n) iv (nI 0) (nI s) a1 a2 a3 a4 a5 a6 a7 a8 a9 a10 a11 a12 a13 a14 := by
  have hT := td_Tb k hk hk0 n hn
  intro d
  induction d with
  | zero =>
    intro s x2 a5 a6 a7 a8 a9 a10 a11 a12 a13 a14 hd hx hM hH
    have e : s = td_T k n := by omega
    have hQ7 := td_Q7 k s
    have fin : wX_execute_156 post (nI n) iv (nI 0) (nI s) a1 a2 a3 a4 a5 a6 a7 a8 a9 a10 a11 a12 a13 a14 := by
      unfold wX_execute_156
      rw [e] at hM hH ⊢
      exact td_travel (t := 0) (by omega) (Nat.le_refl _) (by omega) hH (td_FN v hk hk0 hn) hM (fun b5 hb => H _ _ _ _ _ _ _ _ _ _ hb hH)
    rcases hx with ⟨z, _⟩ | ⟨_, z⟩
    · exact absurd z (by omega)
    · refine br_c (fun _ => fin) (fun g => pk_le n (td_Q k s) (fun _ => fin) (fun y => ?_))
      rcases z with z | z
      · exact absurd z g
      · exact absurd z (by omega)
  | succ d ih =>
    intro s x2 a5 a6 a7 a8 a9 a10 a11 a12 a13 a14 hd hx hM hH
    have hs : s < td_T k n := by omega
    obtain ⟨hQn, hQ6, hQe⟩ := td_Qn k hk hk0 n hn s (by omega) hs
    have hQ7 := td_Q7 k s
    have hQ7' := td_Q7 k (s + 1)
    have hx1 : x2 = 1 := by
      rcases hx with ⟨_, z⟩ | ⟨z, _⟩
      · exact z
      · exact absurd z (by omega)
    subst hx1
    have step : ∀ z0 : Int32, ((s + 1 < td_T k n ∧ z0 = 1) ∨ (s + 1 = td_T k n ∧ (z0 = 0 ∨ n ≤ td_Q k (s + 1)))) → wX_execute_137 post (wX_execute_79 post (d + 1)) (nI (td_Q k s)) z0 (nI n) iv (nI 0) (nI (s + 1)) a1 a2 a3 a4 a5 (upd a6 (s + 1) (-1)) a7 a8 a9 a10 a11 a12 a13 a14 := by
      intro z0 hz
      unfold wX_execute_137
      refine td_perform hk hk0 hn hs hP hM hH.2.2.1 pk_us (fun b5 b6 b7 b8 b9 b12 hR => ?_)
      have hlb := td_lb_le (td_Q k) (s + 1) (td_Q k (s + 1))
      refine td_noteS (c := td_lb (td_Q k) (s + 1) (td_Q k (s + 1))) (by omega) (by omega) (by omega) (by omega) (hH.2.2.2.1 _ (by omega)) ?_
      exact ih (s + 1) z0 b5 b6 b7 b8 b9 _ _ b12 _ a14 (by omega) hz hR.1 (td_Hs hH hR)
    have hop : a1 (td_Q k s) = nI (td_o (td_Q k s)) := (hP _ hQn).1
    refine br_f (by decide) (pk_le n (td_Q k s) (fun z => absurd z (by omega)) (fun _ => pk_le 200 s (fun z => absurd z (by omega)) (fun _ => nm_r (nI_1 s) (And.intro (pk_in (s + 1) 201 (by omega)) ?_))))
    rw [nI_clamp (show s + 1 < 2 ^ 31 by omega)]
    refine nm_e (And.intro (pk_in (td_Q k s) 20 (by omega)) ?_)
    rw [nI_clamp (show td_Q k s < 2 ^ 31 by omega), hop]
    by_cases e : td_Q k s = 6
    · refine br_t (by rw [e]; rfl) (step 0 (Or.inr ⟨hQ6 e, Or.inl rfl⟩))
    · refine br_f ?_ (step 1 ?_)
      · have cs : td_Q k s = 0 ∨ td_Q k s = 1 ∨ td_Q k s = 2 ∨ td_Q k s = 3 ∨ td_Q k s = 4 ∨ td_Q k s = 5 := by omega
        rcases cs with g | g | g | g | g | g <;> rw [g] <;> decide
      · by_cases g : s + 1 < td_T k n
        · exact Or.inl ⟨g, rfl⟩
        · exact Or.inr ⟨by omega, Or.inr (hQe (by omega) e)⟩
theorem td_A0 : ∀ k, k < 9 → ∀ j, j < 14 → td_A k 0 j = (if j = 5 then 1 else 0) ∧ td_B k 0 j = 0 := by decide +kernel
theorem td_N0 {k j : Nat} (v : Int32) (hk : k < 9) (hj : j < 14) : td_N k v 0 j = if j = 5 then v else 0 := by
  obtain ⟨hA, hB⟩ := td_A0 k hk j hj
  unfold td_N
  rw [hA, hB, nI_0, Int32.add_zero]
  by_cases e : j = 5
  · rw [if_pos e, if_pos e]
    exact Int32.one_mul v
  · rw [if_neg e, if_neg e, nI_0, Int32.zero_mul]
theorem td_exec30 {post : St2 → Prop} {pr tt : Int32} {a1 a2 a3 a4 a5 a6 a7 a8 a9 a10 a11 a12 a13 a14 : Nat → Int32} {k n : Nat} {v : Int32} (hk : k < 9) (hk0 : 0 < k) (hn : n < 8) (hP : td_P k n a1 a2 a3 a4) (h5 : ∀ j, j < 14 → a5 j = 0) (h12 : ∀ j, j < 14 → a12 j = 0)
    (H : ∀ b5 b6 b7 b8 b9 b10 b11 b12 b13 b14, td_M b5 (td_N k v 0) → td_H (td_V k) (td_Q k) (td_N k v) (td_T k n) b6 b7 b8 b9 b10 b11 b12 b13 b14 → post (nI n, v, nI 0, nI (td_T k n), a1, a2, a3, a4, b5, b6, b7, b8, b9, b10, b11, b12, b13, b14)) :
    ∃ f, wX_execute_30 post (nI n) v pr tt f 0 a1 a2 a3 a4 a5 a6 a7 a8 a9 a10 a11 a12 a13 a14 := by
  refine pk_loop (fun f i s => wX_execute_30 post (nI n) v pr tt f (nI i) a1 a2 a3 a4 a5 a6 a7 a8 a9 a10 a11 a12 s a14) (fun i s => ∀ j, j < i → s j = (fun _ => -1 : Nat → Int32) j) 21 0 a13 (by omega) (fun j hj => absurd hj (by omega)) ?_ ?_
  · intro f s h
    refine pk_le 21 21 (fun _ => nm_e ?_) (fun z => absurd z (by omega))
    have hM : td_M (upd a5 5 v) (td_N k v 0) := by
      intro j hj
      rw [td_N0 v hk hj]
      by_cases e : j = 5
      · rw [e, pk_us, if_pos rfl]
      · rw [pk_un e, if_neg e]
        exact h5 j hj
    refine td_note0 (q := 0) (c := 0) (by omega) (by omega) (by rw [h 0 (by omega)]; rfl) (fun b14 hb => ?_)
    have hd : 0 + td_T k n = td_T k n := by omega
    refine ⟨_, td_79 hk hk0 hn hP H (td_T k n) 0 1 _ a6 a7 a8 a9 _ _ a12 _ b14 hd ?_ hM ?_⟩
    · by_cases e : td_T k n = 0
      · have := td_T0 e
        exact Or.inr ⟨e.symm, Or.inr (by omega)⟩
      · exact Or.inl ⟨by omega, rfl⟩
    · refine ⟨fun j hj => absurd hj (by omega), fun j hj => ?_, h12, fun i hi => ?_, fun j hj => ?_⟩
      · have e : j = 0 := by omega
        subst e
        rw [pk_us, pk_us]
        exact ⟨rfl, rfl⟩
      · show upd s 0 (nI 0) i = nI (if 0 = i then 1 else 0) - 1
        by_cases e : i = 0
        · rw [e, pk_us]
          rfl
        · rw [pk_un e, if_neg (fun z => e z.symm), h i hi]
          rfl
      · rw [hb j hj]
        exact hM j hj
  · intro f i s hi h hw
    refine pk_le 21 i (fun z => absurd z (by omega)) (fun _ => And.intro (vp_in_nI hi (by omega)) (nm_e (nm_r (nI_1 i) (hw _ (td_fill (nI_clamp (by omega)) h rfl)))))
theorem td_exec {post : St2 → Prop} {pr tt : Int32} {a1 a2 a3 a4 a5 a6 a7 a8 a9 a10 a11 a12 a13 a14 : Nat → Int32} {k n : Nat} {v : Int32} (hk : k < 9) (hk0 : 0 < k) (hn : n < 8) (hP : td_P k n a1 a2 a3 a4)
    (H : ∀ b5 b6 b7 b8 b9 b10 b11 b12 b13 b14, td_M b5 (td_N k v 0) → td_H (td_V k) (td_Q k) (td_N k v) (td_T k n) b6 b7 b8 b9 b10 b11 b12 b13 b14 → post (nI n, v, nI 0, nI (td_T k n), a1, a2, a3, a4, b5, b6, b7, b8, b9, b10, b11, b12, b13, b14)) :
    wpX_execute post (nI n, v, pr, tt, a1, a2, a3, a4, a5, a6, a7, a8, a9, a10, a11, a12, a13, a14) := by
  unfold wpX_execute
  refine pk_loop (fun f i s => wX_execute_2 post (nI n) v pr tt f (nI i) a1 a2 a3 a4 s.1 a6 a7 a8 a9 a10 a11 s.2 a13 a14) (fun i s => (∀ j, j < i → s.1 j = (fun _ => 0 : Nat → Int32) j) ∧ (∀ j, j < i → s.2 j = (fun _ => 0 : Nat → Int32) j)) 14 0 (a5, a12) (by omega) ⟨fun j hj => absurd hj (by omega), fun j hj => absurd hj (by omega)⟩ ?_ ?_
  · intro f s h
    exact pk_le 14 14 (fun _ => td_exec30 hk hk0 hn hP h.1 h.2 H) (fun z => absurd z (by omega))
  · intro f i s hi h hw
    exact pk_le 14 i (fun z => absurd z (by omega)) (fun _ => And.intro (vp_in_nI hi (by omega)) (nm_e (And.intro (vp_in_nI hi (by omega)) (nm_e (nm_r (nI_1 i) (hw (_, _) ⟨td_fill (nI_clamp (by omega)) h.1 rfl, td_fill (nI_clamp (by omega)) h.2 rfl⟩))))))
end
section
theorem td_isV {post : Int32 → Prop} {ln iv pr tt : Int32} {a1 a2 a3 a4 a5 a6 a7 a8 a9 a10 a11 a12 a13 a14 : Nat → Int32} {x : Nat} (hx : x ≤ 5) (h : post 1) : wpX_isVariable post (ln, iv, pr, tt, a1, a2, a3, a4, a5, a6, a7, a8, a9, a10, a11, a12, a13, a14) (nI x) := by
  unfold wpX_isVariable
  exact br_f (nI_pos (by omega)) (br_f (nI_nlt (a := 5) hx (by decide)) h)
theorem td_fits {post : Int32 → Prop} {ln iv pr tt : Int32} {a1 a2 a3 a4 a5 a6 a7 a8 a9 a10 a11 a12 a13 a14 : Nat → Int32} {k n : Nat} (hn : n < 7) (h : post 1) : wpX_fits post (ln, iv, pr, tt, a1, a2, a3, a4, a5, a6, a7, a8, a9, a10, a11, a12, a13, a14) (nI (td_o n)) (nI (td_x n)) (nI (td_y k n)) (nI (td_z n)) := by
  unfold wpX_fits
  dsimp only
  have cs : n = 0 ∨ n = 1 ∨ n = 2 ∨ n = 3 ∨ n = 4 ∨ n = 5 ∨ n = 6 := by omega
  rcases cs with e | e | e | e | e | e | e <;> subst e
  · exact br_f (by decide) (br_f (by decide) (td_isV (x := 0) (by omega) (br_f (by decide) (br_t (by decide) h))))
  · exact br_f (by decide) (br_f (by decide) (td_isV (x := 1) (by omega) (br_f (by decide) (br_t (by decide) h))))
  · exact br_f (by decide) (br_f (by decide) (td_isV (x := 2) (by omega) (br_f (by decide) (br_f (by decide) (br_f (by decide) (td_isV (x := 2) (by omega) (br_f (by decide) (br_f (by decide) (td_isV (x := 5) (by omega) (br_f (by decide) h))))))))))
  · exact br_f (by decide) (br_f (by decide) (td_isV (x := 2) (by omega) (br_f (by decide) (br_f (by decide) (br_f (by decide) (td_isV (x := 0) (by omega) (br_f (by decide) (br_t (by decide) h))))))))
  · exact br_f (by decide) (br_f (by decide) (td_isV (x := 0) (by omega) (br_f (by decide) (br_f (by decide) (br_f (by decide) (td_isV (x := 0) (by omega) (br_f (by decide) (br_f (by decide) (td_isV (x := 1) (by omega) (br_f (by decide) h))))))))))
  · exact br_f (by decide) (br_f (by decide) (td_isV (x := 0) (by omega) (br_f (by decide) (br_f (by decide) (br_t (by decide) (br_f (show ¬ nI 2 < 0 by decide) (br_f (show ¬ 19 < nI 2 by decide) h)))))))
  · exact br_t (by decide) h
theorem td_o8 (n : Nat) : td_o n ≤ 8 := by
  unfold td_o
  repeat' split
  all_goals omega
theorem td_Pu {k n : Nat} {a1 a2 a3 a4 : Nat → Int32} (hP : td_P k n a1 a2 a3 a4) : td_P k (n + 1) (upd a1 n (nI (td_o n))) (upd a2 n (nI (td_x n))) (upd a3 n (nI (td_y k n))) (upd a4 n (nI (td_z n))) := by
  intro i hi
  by_cases e : i = n
  · rw [e, pk_us, pk_us, pk_us, pk_us]
    exact ⟨rfl, rfl, rfl, rfl⟩
  · rw [pk_un e, pk_un e, pk_un e, pk_un e]
    exact hP i (by omega)
theorem td_emit {post : Int32 → St2 → Prop} {pr tt : Int32} {a1 a2 a3 a4 a5 a6 a7 a8 a9 a10 a11 a12 a13 a14 : Nat → Int32} {k n : Nat} {v o x y z : Int32} (hk : k < 9) (hk0 : 0 < k) (hn : n < 7) (hP : td_P k n a1 a2 a3 a4)
    (H : ∀ pr tt a1 a2 a3 a4 a5 a6 a7 a8 a9 a10 a11 a12 a13 a14, td_P k (n + 1) a1 a2 a3 a4 → post (nI (n + 1)) (nI (n + 1), v, pr, tt, a1, a2, a3, a4, a5, a6, a7, a8, a9, a10, a11, a12, a13, a14))
    (ho : o = nI (td_o n) := by rfl) (hx : x = nI (td_x n) := by rfl) (hy : y = nI (td_y k n) := by rfl) (hz : z = nI (td_z n) := by rfl) :
    wpX_emit post (nI n, v, pr, tt, a1, a2, a3, a4, a5, a6, a7, a8, a9, a10, a11, a12, a13, a14) o x y z := by
  subst ho hx hy hz
  have h8 := td_o8 n
  unfold wpX_emit
  dsimp only
  refine br_t (nI_lt (b := 20) (by omega) (by decide)) (br_f (nI_pos (by omega)) (br_f (nI_nlt (a := 8) h8 (by decide)) (td_fits hn (br_f (by decide) ?_))))
  rw [nI_clamp (show n < 2 ^ 31 by omega), td_n8 _ (show td_o n < 32 by omega)]
  refine ⟨pk_in n 20 (by omega), nm_e ⟨pk_in n 20 (by omega), nm_e ⟨pk_in n 20 (by omega), nm_e ⟨pk_in n 20 (by omega), nm_e (nm_r (nI_1 n) ?_)⟩⟩⟩⟩
  exact td_exec hk hk0 (by omega) (td_Pu hP) (fun b5 b6 b7 b8 b9 b10 b11 b12 b13 b14 _ _ => H _ _ _ _ _ _ _ _ _ _ _ _ _ _ _ _ (td_Pu hP))
theorem td_input {post : Int32 → St2 → Prop} {iv pr tt : Int32} {a1 a2 a3 a4 a5 a6 a7 a8 a9 a10 a11 a12 a13 a14 : Nat → Int32} {k : Nat} {v : Int32} (hk : k < 9) (hk0 : 0 < k) (hP : td_P k 7 a1 a2 a3 a4)
    (H : ∀ a5 a6 a7 a8 a9 a10 a11 a12 a13 a14, td_M a5 (td_N k v 0) → td_H (td_V k) (td_Q k) (td_N k v) (3 + 4 * k) a6 a7 a8 a9 a10 a11 a12 a13 a14 → post (nI (3 + 4 * k)) (nI 7, v, nI 0, nI (3 + 4 * k), a1, a2, a3, a4, a5, a6, a7, a8, a9, a10, a11, a12, a13, a14)) :
    wpX_input post (nI 7, iv, pr, tt, a1, a2, a3, a4, a5, a6, a7, a8, a9, a10, a11, a12, a13, a14) v := by
  unfold wpX_input
  dsimp only
  exact td_exec hk hk0 (by omega) hP (fun b5 b6 b7 b8 b9 b10 b11 b12 b13 b14 hM hH => H _ _ _ _ _ _ _ _ _ _ hM hH)
theorem td_goTo {post : Int32 → St2 → Prop} {ln iv : Int32} {a1 a2 a3 a4 a5 a6 a7 a8 a9 a10 a11 a12 a13 a14 : Nat → Int32} {V Q : Nat → Nat} {N : Nat → Nat → Int32} {T p t : Nat} (hT : T < 50) (hp : p ≤ T) (ht : t ≤ T) (hH : td_H V Q N T a6 a7 a8 a9 a10 a11 a12 a13 a14) (hF : td_F V N T) (hM : td_M a5 (N p))
    (H : ∀ b5, td_M b5 (N t) → post (nI (Q t)) (ln, iv, nI t, nI T, a1, a2, a3, a4, b5, a6, a7, a8, a9, a10, a11, a12, a13, a14)) : wpX_goTo post (ln, iv, nI p, nI T, a1, a2, a3, a4, a5, a6, a7, a8, a9, a10, a11, a12, a13, a14) (nI t) := by
  unfold wpX_goTo
  dsimp only
  refine br_f (nI_pos (by omega)) (br_t (nI_le ht (by omega)) (td_travel hT hp ht hH hF hM (fun b5 hb => And.intro (pk_in t 201 (by omega)) ?_)))
  dsimp only
  rw [nI_clamp (show t < 2 ^ 31 by omega), (hH.2.1 t ht).1]
  exact H b5 hb
theorem td_goToBad {post : Int32 → St2 → Prop} {ln iv pr : Int32} {a1 a2 a3 a4 a5 a6 a7 a8 a9 a10 a11 a12 a13 a14 : Nat → Int32} {T t : Nat} (hT : T < 50) (ht : T < t) (ht2 : t < 64) (H : post (-1) (ln, iv, pr, nI T, a1, a2, a3, a4, a5, a6, a7, a8, a9, a10, a11, a12, a13, a14)) : wpX_goTo post (ln, iv, pr, nI T, a1, a2, a3, a4, a5, a6, a7, a8, a9, a10, a11, a12, a13, a14) (nI t) := by
  unfold wpX_goTo
  dsimp only
  exact br_f (nI_pos (by omega)) (br_f (nI_ge ht (by omega)) H)
theorem td_var {post : Int32 → Prop} {ln iv pr tt : Int32} {a1 a2 a3 a4 a5 a6 a7 a8 a9 a10 a11 a12 a13 a14 : Nat → Int32} {j : Nat} (hj : j ≤ 5) (H : post (a5 j)) : wpX_variable post (ln, iv, pr, tt, a1, a2, a3, a4, a5, a6, a7, a8, a9, a10, a11, a12, a13, a14) (nI j) := by
  unfold wpX_variable
  dsimp only
  rw [nI_clamp (show j < 2 ^ 31 by omega)]
  exact td_isV hj (br_f (by decide) ⟨pk_in j 14 (by omega), H⟩)
theorem td_cell {post : Int32 → Prop} {ln iv pr tt : Int32} {a1 a2 a3 a4 a5 a6 a7 a8 a9 a10 a11 a12 a13 a14 : Nat → Int32} {c : Nat} (hc : c ≤ 7) (H : post (a5 (6 + c))) : wpX_cell post (ln, iv, pr, tt, a1, a2, a3, a4, a5, a6, a7, a8, a9, a10, a11, a12, a13, a14) (nI c) := by
  have e : 6 + nI c = nI (6 + c) := nI_add 6 c
  unfold wpX_cell
  dsimp only
  rw [e, nI_clamp (show 6 + c < 2 ^ 31 by omega)]
  exact br_f (nI_pos (by omega)) (br_t (nI_le (b := 7) hc (by decide)) ⟨pk_in (6 + c) 14 (by omega), H⟩)
theorem td_wut {post : Int32 → Prop} {ln iv : Int32} {a1 a2 a3 a4 a5 a6 a7 a8 a9 a10 a11 a12 a13 a14 : Nat → Int32} {V Q : Nat → Nat} {N : Nat → Nat → Int32} {T p j : Nat} (hT : T < 50) (hp : p ≤ T) (hj : j < 14) (hH : td_H V Q N T a6 a7 a8 a9 a10 a11 a12 a13 a14)
    (H : post (nI (td_lb V p j))) : wpX_writeUpTo post (ln, iv, nI p, nI T, a1, a2, a3, a4, a5, a6, a7, a8, a9, a10, a11, a12, a13, a14) (nI j) := by
  have lp : ∀ f n, n ≤ f → p ≤ n → n ≤ T → wX_writeUpTo_7 post ln iv (nI p) (nI T) a1 a2 a3 a4 a5 a6 a7 a8 a9 a10 a11 a12 a13 a14 (f + 1) (nI (td_lb V n j)) := by
    intro f
    induction f with
    | zero =>
      intro n hf hn hnT
      have hl := td_lb_le V n j
      exact pk_le (td_lb V n j) p (fun z => by rw [td_lb_low n hn z]; exact H) (fun z => absurd z (by omega))
    | succ f ih =>
      intro n hf hn hnT
      have hl := td_lb_le V n j
      refine pk_le (td_lb V n j) p (fun z => by rw [td_lb_low n hn z]; exact H) (fun z => ?_)
      obtain ⟨c, hc⟩ : ∃ c, td_lb V n j = c + 1 := ⟨td_lb V n j - 1, by omega⟩
      obtain ⟨hv, hcn⟩ := td_lb_hit hc
      refine And.intro (pk_in (td_lb V n j) 201 (by omega)) ?_
      rw [nI_clamp (show td_lb V n j < 2 ^ 31 by omega), hc]
      have e : a9 (c + 1) = nI (td_lb V c j) := by
        rcases hH.1 c (by omega) with ⟨g, _⟩ | ⟨_, _, _, _, g⟩
        · exact absurd g (by omega)
        · rw [g, hv]
      exact nm_r e (ih c (by omega) (by omega) (by omega))
  unfold wpX_writeUpTo
  dsimp only
  rw [nI_clamp (show j < 2 ^ 31 by omega), hH.2.2.1 j hj]
  exact ⟨pk_in j 14 hj, nm_e ⟨_, lp T T (Nat.le_refl _) hp (Nat.le_refl _)⟩⟩
theorem td_lw0 {post : Int32 → Prop} {ln iv : Int32} {a1 a2 a3 a4 a5 a6 a7 a8 a9 a10 a11 a12 a13 a14 : Nat → Int32} {V Q : Nat → Nat} {N : Nat → Nat → Int32} {T p x : Nat} (hT : T < 50) (hp : p ≤ T) (hx : x ≤ 5) (hH : td_H V Q N T a6 a7 a8 a9 a10 a11 a12 a13 a14)
    (H : post (nI (td_lb V p x))) : wpX_lastWrite post (ln, iv, nI p, nI T, a1, a2, a3, a4, a5, a6, a7, a8, a9, a10, a11, a12, a13, a14) 0 (nI x) := by
  have e : 6 * (0 : Int32) + nI x = nI x := by
    show (0 : Int32) + nI x = nI x
    exact Int32.zero_add _
  unfold wpX_lastWrite
  dsimp only
  refine br_f (by decide) (br_t (by decide) (br_f (nI_pos (by omega)) (br_t rfl ?_)))
  unfold wX_lastWrite_26
  rw [e]
  exact br_t (nI_le (b := 5) hx (by decide)) (td_wut hT hp (by omega) hH H)
theorem td_lw1 {post : Int32 → Prop} {ln iv : Int32} {a1 a2 a3 a4 a5 a6 a7 a8 a9 a10 a11 a12 a13 a14 : Nat → Int32} {V Q : Nat → Nat} {N : Nat → Nat → Int32} {T p x : Nat} (hT : T < 50) (hp : p ≤ T) (hx : x ≤ 7) (hH : td_H V Q N T a6 a7 a8 a9 a10 a11 a12 a13 a14)
    (H : post (nI (td_lb V p (6 + x)))) : wpX_lastWrite post (ln, iv, nI p, nI T, a1, a2, a3, a4, a5, a6, a7, a8, a9, a10, a11, a12, a13, a14) 1 (nI x) := by
  have e : 6 * (1 : Int32) + nI x = nI (6 + x) := nI_add 6 x
  unfold wpX_lastWrite
  dsimp only
  refine br_f (by decide) (br_t (by decide) (br_f (nI_pos (by omega)) (br_f (by decide) ?_)))
  unfold wX_lastWrite_26
  rw [e]
  exact br_t (nI_le (b := 7) hx (by decide)) (td_wut hT hp (by omega) hH H)
theorem td_lwBad {post : Int32 → Prop} {ln iv pr tt : Int32} {a1 a2 a3 a4 a5 a6 a7 a8 a9 a10 a11 a12 a13 a14 : Nat → Int32} {x : Int32} (H : post (-1)) : wpX_lastWrite post (ln, iv, pr, tt, a1, a2, a3, a4, a5, a6, a7, a8, a9, a10, a11, a12, a13, a14) 2 x := by
  unfold wpX_lastWrite
  dsimp only
  exact br_f (by decide) (br_f (by decide) H)
theorem td_m1n (c : Nat) (h : c < 2 ^ 31) : (-1 : Int32) < nI c ∧ (-1 : Int32) ≤ nI c := by
  have e : (nI c).toInt = (c : Int) := nI_toInt h
  have e1 : (-1 : Int32).toInt = -1 := by decide
  rw [Int32.lt_iff_toInt_lt, Int32.le_iff_toInt_le, e, e1]
  omega
theorem td_back {post : Int32 → St2 → Prop} {ln iv : Int32} {a1 a2 a3 a4 a5 a6 a7 a8 a9 a10 a11 a12 a13 a14 : Nat → Int32} {V Q : Nat → Nat} {N : Nat → Nat → Int32} {T p i : Nat} (hT : T < 50) (hp : p ≤ T) (hi : i ≤ 19) (hH : td_H V Q N T a6 a7 a8 a9 a10 a11 a12 a13 a14) (hF : td_F V N T) (hM : td_M a5 (N p))
    (H1 : td_lb Q p i = 0 → post (-3) (ln, iv, nI p, nI T, a1, a2, a3, a4, a5, a6, a7, a8, a9, a10, a11, a12, a13, a14)) (H2 : ∀ m b5, td_lb Q p i = m + 1 → td_M b5 (N m) → post (nI m) (ln, iv, nI m, nI T, a1, a2, a3, a4, b5, a6, a7, a8, a9, a10, a11, a12, a13, a14)) : wpX_backTo post (ln, iv, nI p, nI T, a1, a2, a3, a4, a5, a6, a7, a8, a9, a10, a11, a12, a13, a14) (nI i) := by
  have lp : ∀ f n, n ≤ f → p ≤ n → n ≤ T + 1 → wX_backTo_19 post ln iv (nI p) (nI T) a1 a2 a3 a4 a5 a6 a7 a8 a9 a10 a11 a12 a13 a14 (f + 1) (nI (td_lb Q n i) - 1) := by
    intro f
    induction f with
    | zero =>
      intro n hf hn hnT
      have e : n = 0 := by omega
      have e2 : p = 0 := by omega
      subst e e2
      exact br_t (show (-1 : Int32) < nI 0 by decide) (br_f (show ¬ (0 : Int32) ≤ -1 by decide) (H1 rfl))
    | succ f ih =>
      intro n hf hn hnT
      have hl := td_lb_le Q n i
      by_cases z : td_lb Q n i = 0
      · have e : td_lb Q p i = 0 := by rw [← td_lb_low n hn (by omega), z]
        rw [z]
        exact br_t (show (-1 : Int32) < nI p from (td_m1n p (by omega)).1) (br_f (show ¬ (0 : Int32) ≤ -1 by decide) (H1 e))
      · obtain ⟨c, hc⟩ : ∃ c, td_lb Q n i = c + 1 := ⟨td_lb Q n i - 1, by omega⟩
        obtain ⟨hv, hcn⟩ := td_lb_hit hc
        rw [hc, nI_pred]
        refine pk_lt c p (fun g => ?_) (fun g => And.intro (pk_in c 201 (by omega)) ?_)
        · have e : td_lb Q p i = c + 1 := by rw [← td_lb_low n hn (by omega), hc]
          exact br_t (nI_pos' (by omega)) (td_travel hT hp (by omega) hH hF hM (fun b5 hb => H2 c b5 e hb))
        · rw [nI_clamp (show c < 2 ^ 31 by omega)]
          exact nm_r (by rw [(hH.2.1 c (by omega)).2, hv]) (ih c (by omega) g (by omega))
  unfold wpX_backTo
  dsimp only
  rw [nI_clamp (show i < 2 ^ 31 by omega), hH.2.2.2.1 i (by omega)]
  exact br_f (nI_pos (by omega)) (br_t (nI_le (b := 19) hi (by decide)) ⟨pk_in i 21 (by omega), nm_e ⟨_, lp (T + 1) (T + 1) (Nat.le_refl _) (by omega) (Nat.le_refl _)⟩⟩)
theorem td_run {post : Int32 → St2 → Prop} {ln iv : Int32} {a1 a2 a3 a4 a5 a6 a7 a8 a9 a10 a11 a12 a13 a14 : Nat → Int32} {V Q : Nat → Nat} {N : Nat → Nat → Int32} {T p i : Nat} (hT : T < 50) (hp : p ≤ T) (hi : i ≤ 19) (hH : td_H V Q N T a6 a7 a8 a9 a10 a11 a12 a13 a14) (hF : td_F V N T) (hM : td_M a5 (N p))
    (H1 : (∀ s, p < s → s ≤ T → Q s ≠ i) → post (-3) (ln, iv, nI p, nI T, a1, a2, a3, a4, a5, a6, a7, a8, a9, a10, a11, a12, a13, a14)) (H2 : ∀ m b5, p < m → m ≤ T → Q m = i → (∀ s, p < s → s < m → Q s ≠ i) → td_M b5 (N m) → post (nI m) (ln, iv, nI m, nI T, a1, a2, a3, a4, b5, a6, a7, a8, a9, a10, a11, a12, a13, a14)) : wpX_runTo post (ln, iv, nI p, nI T, a1, a2, a3, a4, a5, a6, a7, a8, a9, a10, a11, a12, a13, a14) (nI i) := by
  have fin : ∀ n (x2 : Int32), p + 1 ≤ n → ((n = T + 1 ∧ x2 = -1) ∨ (n ≤ T ∧ x2 = nI n ∧ Q n = i)) → td_lb Q n i ≤ p + 1 → ((0 ≤ x2 → wpX_travel (fun u => post x2 u) (ln, iv, nI p, nI T, a1, a2, a3, a4, a5, a6, a7, a8, a9, a10, a11, a12, a13, a14) x2) ∧ (¬ 0 ≤ x2 → post (-3) (ln, iv, nI p, nI T, a1, a2, a3, a4, a5, a6, a7, a8, a9, a10, a11, a12, a13, a14))) := by
    intro n x2 hn hx hl
    rcases hx with ⟨e, hx⟩ | ⟨hnT, hx, hq⟩
    · rw [hx]
      exact br_f (by decide) (H1 (fun s hs hs2 => td_lb_no n s (by omega) (by omega)))
    · rw [hx]
      exact br_t (nI_pos' (by omega)) (td_travel hT hp hnT hH hF hM (fun b5 hb => H2 n b5 (by omega) hnT hq (fun s hs hs2 => td_lb_no n s (by omega) (by omega)) hb))
  have lp : ∀ f n (x2 : Int32), n ≤ f → p + 1 ≤ n → ((n = T + 1 ∧ x2 = -1) ∨ (n ≤ T ∧ x2 = nI n ∧ Q n = i)) → wX_runTo_21 post ln iv (nI p) (nI T) a1 a2 a3 a4 a5 a6 a7 a8 a9 a10 a11 a12 a13 a14 (f + 1) x2 (nI (td_lb Q n i) - 1) := by
    intro f
    induction f with
    | zero =>
      intro n x2 hf hn hx
      exact absurd hn (by omega)
    | succ f ih =>
      intro n x2 hf hn hx
      have hnT : n ≤ T + 1 := by omega
      have hl := td_lb_le Q n i
      by_cases z : td_lb Q n i = 0
      · have h := fin n x2 hn hx (by omega)
        rw [z]
        exact br_t (show (-1 : Int32) ≤ nI p from (td_m1n p (by omega)).2) h
      · obtain ⟨c, hc⟩ : ∃ c, td_lb Q n i = c + 1 := ⟨td_lb Q n i - 1, by omega⟩
        obtain ⟨hv, hcn⟩ := td_lb_hit hc
        rw [hc, nI_pred]
        refine pk_le c p (fun g => ?_) (fun g => And.intro (pk_in c 201 (by omega)) ?_)
        · exact fin n x2 hn hx (by omega)
        · rw [nI_clamp (show c < 2 ^ 31 by omega)]
          exact nm_r (by rw [(hH.2.1 c (by omega)).2, hv]) (ih c (nI c) (by omega) g (Or.inr ⟨by omega, rfl, hv⟩))
  unfold wpX_runTo
  dsimp only
  rw [nI_clamp (show i < 2 ^ 31 by omega), hH.2.2.2.1 i (by omega)]
  exact br_f (nI_pos (by omega)) (br_t (nI_le (b := 19) hi (by decide)) ⟨pk_in i 21 (by omega), nm_e ⟨_, lp (T + 1) (T + 1) (-1) (Nat.le_refl _) (by omega) (Or.inl ⟨rfl, rfl⟩)⟩⟩)
end
section
theorem td_Q6 {k s : Nat} (hk0 : 0 < k) : td_Q k s = 6 ↔ 2 + 4 * k ≤ s := by
  unfold td_Q
  split
  · omega
  · split <;> omega
theorem td_Q4 {k s : Nat} (hk0 : 0 < k) : td_Q k s = 4 ↔ (4 ≤ s ∧ s % 4 = 0 ∧ s < 2 + 4 * k) := by
  unfold td_Q
  split
  · omega
  · split <;> omega
theorem td_N2 (k : Nat) (v : Int32) (s : Nat) : td_N k v s 2 = nI ((td_I k s + 3) / 4) * v := by
  show nI ((td_I k s + 3) / 4) * v + nI 0 = _
  rw [nI_0, Int32.add_zero]
theorem td_N5 (k : Nat) (v : Int32) (s : Nat) : td_N k v s 5 = v := by
  show nI 1 * v + nI 0 = _
  rw [nI_0, Int32.add_zero]
  exact Int32.one_mul v
theorem td_NB (k : Nat) (v : Int32) (s : Nat) : td_N k v s 0 = nI (if s = 0 then 0 else k - (td_I k s + 1) / 4) := by
  show nI 0 * v + nI (if s = 0 then 0 else k - (td_I k s + 1) / 4) = _
  rw [nI_0, Int32.zero_mul, Int32.zero_add]
theorem td_e4 (k : Nat) : 4 * nI k = nI (4 * k) := pk_mul 4 k
theorem td_e24 (k : Nat) : 2 + 4 * nI k = nI (2 + 4 * k) := by
  rw [td_e4]
  exact nI_add 2 (4 * k)
theorem td_time {post : Int32 → Prop} {ln iv pr tt : Int32} {a1 a2 a3 a4 a5 a6 a7 a8 a9 a10 a11 a12 a13 a14 : Nat → Int32} (h : post pr) : wpX_time post (ln, iv, pr, tt, a1, a2, a3, a4, a5, a6, a7, a8, a9, a10, a11, a12, a13, a14) := by
  unfold wpX_time
  exact h
theorem td_steps {post : Int32 → Prop} {ln iv pr tt : Int32} {a1 a2 a3 a4 a5 a6 a7 a8 a9 a10 a11 a12 a13 a14 : Nat → Int32} (h : post tt) : wpX_steps post (ln, iv, pr, tt, a1, a2, a3, a4, a5, a6, a7, a8, a9, a10, a11, a12, a13, a14) := by
  unfold wpX_steps
  exact h
theorem td_552 {post : Int32 → St0 → Prop} {mc ms kc ks : Nat} {ln iv : Int32} {a1 a2 a3 a4 a5 a6 a7 a8 a9 a10 a11 a12 a13 a14 : Nat → Int32} {k p : Nat} {v z : Int32} (hk : k < 9) (hk0 : 0 < k) (hp : p ≤ 3 + 4 * k) (hH : td_H (td_V k) (td_Q k) (td_N k v) (3 + 4 * k) a6 a7 a8 a9 a10 a11 a12 a13 a14) (hM : td_M a5 (td_N k v p)) (hpost : post 1 ()) :
    wL_lawOf_552 post mc ms v (nI k) (nI (3 + 4 * k)) z z kc ks ln iv (nI p) (nI (3 + 4 * k)) a1 a2 a3 a4 a5 a6 a7 a8 a9 a10 a11 a12 a13 a14 := by
  have hT : 3 + 4 * k < 50 := by omega
  have hF : td_F (td_V k) (td_N k v) (3 + 4 * k) := td_FN (n := 7) v hk hk0 (by omega)
  unfold wL_lawOf_552
  rw [td_e24, nI_1]
  refine br_t rfl (td_goTo (t := 0) hT hp (by omega) hH hF hM (fun b5 hb => ?_))
  refine br_t rfl ?_
  refine td_run (i := 6) hT (by omega) (by omega) hH hF hb (fun h => absurd ((td_Q6 hk0).mpr (Nat.le_refl _)) (h (2 + 4 * k) (by omega) (by omega))) (fun m c5 h1 h2 h3 h4 hc => ?_)
  have em : m = 2 + 4 * k := by
    have g := (td_Q6 hk0).mp h3
    by_cases e : 2 + 4 * k < m
    · exact absurd ((td_Q6 hk0).mpr (Nat.le_refl _)) (h4 (2 + 4 * k) (by omega) e)
    · omega
  subst em
  refine br_t rfl ?_
  refine td_run (i := 6) hT (by omega) (by omega) hH hF hc (fun h => absurd ((td_Q6 hk0).mpr (by omega)) (h (3 + 4 * k) (by omega) (by omega))) (fun m d5 h1 h2 h3 h4 hd => ?_)
  have em : m = 3 + 4 * k := by omega
  subst em
  refine br_t rfl ?_
  refine td_run (i := 6) hT (by omega) (by omega) hH hF hd (fun h => ?_) (fun m d5 h1 h2 h3 h4 hd => absurd h1 (by omega))
  refine br_t rfl (td_time (br_t rfl (td_var (j := 2) (by omega) ?_)))
  have e2 : d5 2 = nI k * v := by
    rw [hd 2 (by omega), td_N2]
    have : (td_I k (3 + 4 * k) + 3) / 4 = k := by
      unfold td_I
      rw [if_neg (by omega)]
      omega
    rw [this]
  refine br_t e2 (td_goToBad (t := 3 + 4 * k + 1) hT (by omega) (by omega) ?_)
  exact br_t rfl (td_lwBad (br_t rfl hpost))
theorem td_530 {post : Int32 → St0 → Prop} {mc ms kc ks : Nat} {ln iv : Int32} {a1 a2 a3 a4 a5 a6 a7 a8 a9 a10 a11 a12 a13 a14 : Nat → Int32} {k p l : Nat} {v x z : Int32} (hk : k < 9) (hk0 : 0 < k) (hp : p ≤ 3 + 4 * k) (hH : td_H (td_V k) (td_Q k) (td_N k v) (3 + 4 * k) a6 a7 a8 a9 a10 a11 a12 a13 a14) (hM : td_M a5 (td_N k v p)) (hpost : post 1 ())
    (hl : l < 100) (hz : z = nI l) (hx : x = if 2 + 4 * k ≤ l then -3 else nI l) : wL_lawOf_530 post mc ms v (nI k) (nI (3 + 4 * k)) x z kc ks ln iv (nI p) (nI (3 + 4 * k)) a1 a2 a3 a4 a5 a6 a7 a8 a9 a10 a11 a12 a13 a14 := by
  unfold wL_lawOf_530
  refine pk_le (2 + 4 * k) l (fun g => ?_) (fun g => ?_) (td_e24 k) hz
  · rw [hx, if_pos g]
    exact td_552 hk hk0 hp hH hM hpost
  · rw [hx, if_neg (by omega), hz]
    exact td_552 hk hk0 hp hH hM hpost
/-- the time that the law expects of runTo(4) -/
def td_l (t : Nat) : Nat := if 4 ≤ t then 4 + 4 * ((t - 4) / 4 + 1) else 4
theorem td_477 {post : Int32 → St0 → Prop} {mc ms kc ks : Nat} {ln iv : Int32} {a1 a2 a3 a4 a5 a6 a7 a8 a9 a10 a11 a12 a13 a14 : Nat → Int32} {k p t : Nat} {v z : Int32} (hk : k < 9) (hk0 : 0 < k) (hp : p ≤ 3 + 4 * k) (ht : t ≤ 3 + 4 * k) (hH : td_H (td_V k) (td_Q k) (td_N k v) (3 + 4 * k) a6 a7 a8 a9 a10 a11 a12 a13 a14) (hM : td_M a5 (td_N k v p)) (hpost : post 1 ()) :
    wL_lawOf_477 post mc ms v (nI k) (nI (3 + 4 * k)) (nI t) (nI (td_Q k t)) z z kc ks ln iv (nI p) (nI (3 + 4 * k)) a1 a2 a3 a4 a5 a6 a7 a8 a9 a10 a11 a12 a13 a14 := by
  have hT : 3 + 4 * k < 50 := by omega
  have hF : td_F (td_V k) (td_N k v) (3 + 4 * k) := td_FN (n := 7) v hk hk0 (by omega)
  unfold wL_lawOf_477
  refine br_t rfl (td_goTo hT hp ht hH hF hM (fun b5 hb => br_t rfl ?_))
  have hl : td_l t < 100 ∧ t < td_l t ∧ 4 ≤ td_l t ∧ td_l t % 4 = 0 ∧ (∀ m, t < m → 4 ≤ m → m % 4 = 0 → td_l t ≤ m) := by
    unfold td_l
    split
    · refine ⟨by omega, by omega, by omega, by omega, fun m h1 h2 h3 => by omega⟩
    · refine ⟨by omega, by omega, by omega, by omega, fun m h1 h2 h3 => by omega⟩
  have go : ∀ (x : Int32) (q : Nat) (c5 : Nat → Int32), q ≤ 3 + 4 * k → td_M c5 (td_N k v q) → (x = if 2 + 4 * k ≤ td_l t then -3 else nI (td_l t)) →
      ((4 ≤ nI t → (¬ (4 : Int32) = 0 ∧ wL_lawOf_530 post mc ms v (nI k) (nI (3 + 4 * k)) x (4 + (4 * (((nI t - 4) / 4) + 1))) kc ks ln iv (nI q) (nI (3 + 4 * k)) a1 a2 a3 a4 c5 a6 a7 a8 a9 a10 a11 a12 a13 a14)) ∧ (¬ 4 ≤ nI t → wL_lawOf_530 post mc ms v (nI k) (nI (3 + 4 * k)) x 4 kc ks ln iv (nI q) (nI (3 + 4 * k)) a1 a2 a3 a4 c5 a6 a7 a8 a9 a10 a11 a12 a13 a14)) := by
    intro x q c5 hq hc hx
    refine pk_le 4 t (fun g => ⟨by decide, ?_⟩) (fun g => ?_)
    · refine td_530 hk hk0 hq hH hc hpost hl.1 ?_ hx
      unfold td_l
      rw [if_pos g, show nI t - 4 = nI (t - 4) from pk_sub g, show nI (t - 4) / 4 = nI ((t - 4) / 4) from pk_div (d := 4) (by omega) (by omega) (by omega), nI_1, td_e4]
      exact nI_add 4 _
    · refine td_530 hk hk0 hq hH hc hpost hl.1 ?_ hx
      unfold td_l
      rw [if_neg (by omega)]
      rfl
  refine td_run (i := 4) hT ht (by omega) hH hF hb (fun h => ?_) (fun m c5 h1 h2 h3 h4 hc => ?_)
  · refine go (-3) t b5 ht hb ?_
    by_cases g : 2 + 4 * k ≤ td_l t
    · rw [if_pos g]
    · exact absurd ((td_Q4 hk0).mpr ⟨hl.2.2.1, hl.2.2.2.1, by omega⟩) (h (td_l t) hl.2.1 (by omega))
  · have g := (td_Q4 hk0).mp h3
    have g2 := hl.2.2.2.2 m h1 g.1 g.2.1
    have em : m = td_l t := by
      by_cases e : td_l t < m
      · exact absurd ((td_Q4 hk0).mpr ⟨hl.2.2.1, hl.2.2.2.1, by omega⟩) (h4 (td_l t) hl.2.1 e)
      · omega
    refine go (nI m) m c5 h2 hc ?_
    rw [if_neg (by omega), em]
theorem td_l3' : ∀ k, k < 9 → ∀ t, t < 36 → (0 < k ∧ t ≤ 3 + 4 * k) → td_lb (td_V k) t 3 = 0 := by decide +kernel
theorem td_l3 : ∀ k, k < 9 → 0 < k → ∀ t, t < 36 → t ≤ 3 + 4 * k → td_lb (td_V k) t 3 = 0 := fun k hk h0 t ht h => td_l3' k hk t ht ⟨h0, h⟩
theorem td_l2' : ∀ k, k < 9 → ∀ t, t < 36 → (0 < k ∧ t ≤ 3 + 4 * k) → td_lb (td_V k) t 2 = if (td_I k t + 3) / 4 = 0 then 0 else 4 * ((td_I k t + 3) / 4) - 1 := by decide +kernel
theorem td_l2 : ∀ k, k < 9 → 0 < k → ∀ t, t < 36 → t ≤ 3 + 4 * k → td_lb (td_V k) t 2 = if (td_I k t + 3) / 4 = 0 then 0 else 4 * ((td_I k t + 3) / 4) - 1 := fun k hk h0 t ht h => td_l2' k hk t ht ⟨h0, h⟩
theorem td_b2' : ∀ k, k < 9 → ∀ t, t < 36 → (0 < k ∧ t ≤ 3 + 4 * k) → td_lb (td_Q k) t 2 = if td_I k t = 0 then 0 else 2 + (td_I k t - 1) / 4 * 4 + 1 := by decide +kernel
theorem td_b2 : ∀ k, k < 9 → 0 < k → ∀ t, t < 36 → t ≤ 3 + 4 * k → td_lb (td_Q k) t 2 = if td_I k t = 0 then 0 else 2 + (td_I k t - 1) / 4 * 4 + 1 := fun k hk h0 t ht h => td_b2' k hk t ht ⟨h0, h⟩
theorem td_lc' : ∀ k, k < 9 → ∀ t, t < 36 → ∀ w, w < 9 → (0 < k ∧ t ≤ 3 + 4 * k ∧ 0 < w) → (td_lb (td_V k) t (6 + w % 8) = if w ≤ k ∧ k + 1 - w ≤ (td_I k t + 2) / 4 then 4 * (k + 1 - w) else 0) := by decide +kernel
theorem td_lc : ∀ k, k < 9 → 0 < k → ∀ t, t < 36 → t ≤ 3 + 4 * k → ∀ w, w < 9 → 0 < w → td_lb (td_V k) t (6 + w % 8) = if w ≤ k ∧ k + 1 - w ≤ (td_I k t + 2) / 4 then 4 * (k + 1 - w) else 0 := fun k hk h0 t ht h w hw h1 => td_lc' k hk t ht w hw ⟨h0, h, h1⟩
theorem td_ac' : ∀ k, k < 9 → ∀ t, t < 36 → ∀ w, w < 9 → (0 < k ∧ t ≤ 3 + 4 * k ∧ 0 < w) → (td_B k t (6 + w % 8) = 0 ∧ td_A k t (6 + w % 8) = if w ≤ k ∧ k + 1 - w ≤ (td_I k t + 2) / 4 then k + 1 - w else 0) := by decide +kernel
theorem td_ac : ∀ k, k < 9 → 0 < k → ∀ t, t < 36 → t ≤ 3 + 4 * k → ∀ w, w < 9 → 0 < w → td_B k t (6 + w % 8) = 0 ∧ td_A k t (6 + w % 8) = if w ≤ k ∧ k + 1 - w ≤ (td_I k t + 2) / 4 then k + 1 - w else 0 := fun k hk h0 t ht h w hw h1 => td_ac' k hk t ht w hw ⟨h0, h, h1⟩
theorem td_nx1 : ∀ k, k < 9 → ∀ t, t < 36 → (0 < k ∧ t ≤ 3 + 4 * k ∧ 2 ≤ t ∧ td_I k t = 4 * k) → td_Q k t = 6 := by decide +kernel
theorem td_nx2 : ∀ k, k < 9 → ∀ t, t < 36 → (0 < k ∧ t ≤ 3 + 4 * k ∧ 2 ≤ t ∧ td_I k t ≠ 4 * k) → td_Q k t = 2 + td_I k t % 4 := by decide +kernel
theorem td_nx (k : Nat) (hk : k < 9) (hk0 : 0 < k) (t : Nat) (ht : t < 36) (h : t ≤ 3 + 4 * k) : (2 ≤ t → td_I k t = 4 * k → td_Q k t = 6) ∧ (2 ≤ t → td_I k t ≠ 4 * k → td_Q k t = 2 + td_I k t % 4) ∧ (t < 2 → td_Q k t = t) :=
  ⟨fun a b => td_nx1 k hk t ht ⟨hk0, h, a, b⟩, fun a b => td_nx2 k hk t ht ⟨hk0, h, a, b⟩, fun a => if_pos a⟩
theorem td_I4 (k t : Nat) : td_I k t ≤ 4 * k := by
  unfold td_I
  split <;> omega
theorem td_434 {post : Int32 → St0 → Prop} {mc ms kc ks : Nat} {ln iv : Int32} {a1 a2 a3 a4 a5 a6 a7 a8 a9 a10 a11 a12 a13 a14 : Nat → Int32} {k t : Nat} {v z : Int32} (hk : k < 9) (hk0 : 0 < k) (ht : t ≤ 3 + 4 * k) (hH : td_H (td_V k) (td_Q k) (td_N k v) (3 + 4 * k) a6 a7 a8 a9 a10 a11 a12 a13 a14) (hM : td_M a5 (td_N k v t)) (hpost : post 1 ()) :
    wL_lawOf_434 post mc ms v (nI k) (nI (3 + 4 * k)) (nI t) (nI (td_I k t)) (nI (td_Q k t)) z z kc ks ln iv (nI t) (nI (3 + 4 * k)) a1 a2 a3 a4 a5 a6 a7 a8 a9 a10 a11 a12 a13 a14 := by
  have hT : 3 + 4 * k < 50 := by omega
  have hF : td_F (td_V k) (td_N k v) (3 + 4 * k) := td_FN (n := 7) v hk hk0 (by omega)
  have hI := td_I4 k t
  have hb := td_b2 k hk hk0 t (by omega) ht
  unfold wL_lawOf_434
  refine br_t rfl (td_lw0 (x := 3) hT ht (by omega) hH ?_)
  rw [td_l3 k hk hk0 t (by omega) ht]
  refine br_t rfl ?_
  refine td_back (i := 2) hT ht (by omega) hH hF hM (fun h => ?_) (fun m b5 h hb5 => ?_)
  · have e : td_I k t = 0 := by
      rw [h] at hb
      by_cases e : td_I k t = 0
      · exact e
      · rw [if_neg e] at hb
        omega
    rw [e]
    exact br_t rfl (td_477 hk hk0 ht ht hH hM hpost)
  · have hm : td_I k t ≠ 0 ∧ m = 2 + (td_I k t - 1) / 4 * 4 := by
      rw [h] at hb
      by_cases e : td_I k t = 0
      · rw [if_pos e] at hb
        omega
      · rw [if_neg e] at hb
        exact ⟨e, by omega⟩
    obtain ⟨hm0, hm⟩ := hm
    refine br_f (nI_ne0 (by omega) (by omega)) (And.intro (by decide) ?_)
    have e : 2 + (nI (td_I k t) - 1) / 4 * 4 = nI m := by
      rw [show nI (td_I k t) - 1 = nI (td_I k t - 1) from pk_sub (show 1 ≤ td_I k t by omega), show nI (td_I k t - 1) / 4 = nI ((td_I k t - 1) / 4) from pk_div (d := 4) (by omega) (by omega) (by omega), show nI ((td_I k t - 1) / 4) * 4 = nI ((td_I k t - 1) / 4 * 4) from pk_mul _ 4, hm]
      exact nI_add 2 _
    rw [e]
    exact td_477 hk hk0 (by omega) ht hH hb5 hpost
theorem td_351 {post : Int32 → St0 → Prop} {mc ms kc ks : Nat} {ln iv : Int32} {a1 a2 a3 a4 a5 a6 a7 a8 a9 a10 a11 a12 a13 a14 : Nat → Int32} {J : Int32 → Prop} {k t w : Nat} {v x4 x6 x7 x8 x9 x10 x11 x14 z0 : Int32} (hk : k < 9) (hk0 : 0 < k) (ht : t ≤ 3 + 4 * k) (hw : w < 9) (hH : td_H (td_V k) (td_Q k) (td_N k v) (3 + 4 * k) a6 a7 a8 a9 a10 a11 a12 a13 a14)
    (hc : a5 (6 + w % 8) = z0) (hl : ((x14 ≤ 0 ∨ x11 < x14) ∧ td_lb (td_V k) t (6 + w % 8) = 0) ∨ (¬ x14 ≤ 0 ∧ ¬ x11 < x14 ∧ nI (td_lb (td_V k) t (6 + w % 8)) = 4 * x14)) (hJ : J (nI (w + 1))) :
    wL_lawOf_351 post mc ms J v x4 x6 x7 x8 x9 x10 x11 (nI w) x14 z0 kc ks ln iv (nI t) (nI (3 + 4 * k)) a1 a2 a3 a4 a5 a6 a7 a8 a9 a10 a11 a12 a13 a14 := by
  have e7 : nI w &&& 7 = nI (w % 8) := pk_andN (by omega) 3 (by decide)
  unfold wL_lawOf_351
  rw [e7]
  refine td_cell (by omega) (br_t hc (td_lw1 (by omega) ht (by omega) hH ?_))
  have go : ∀ z : Int32, nI (td_lb (td_V k) t (6 + w % 8)) = z → wL_lawOf_401 post mc ms J v x4 x6 x7 x8 x9 x10 x11 (nI w) z (nI (td_lb (td_V k) t (6 + w % 8))) kc ks ln iv (nI t) (nI (3 + 4 * k)) a1 a2 a3 a4 a5 a6 a7 a8 a9 a10 a11 a12 a13 a14 := by
    intro z hz
    unfold wL_lawOf_401
    exact br_t hz (nm_r (nI_1 w) hJ)
  rcases hl with ⟨h, e⟩ | ⟨h1, h2, e⟩
  · have g0 : wL_lawOf_400 post mc ms J v x4 x6 x7 x8 x9 x10 x11 (nI w) (nI (td_lb (td_V k) t (6 + w % 8))) kc ks ln iv (nI t) (nI (3 + 4 * k)) a1 a2 a3 a4 a5 a6 a7 a8 a9 a10 a11 a12 a13 a14 := by
      unfold wL_lawOf_400
      exact go 0 (by rw [e]; rfl)
    refine br_c (fun _ => g0) (fun n => ?_)
    rcases h with h | h
    · exact absurd h n
    · exact br_t h g0
  · exact br_f h1 (br_f h2 (go _ e))
theorem td_ng : ∀ k, k < 9 → ∀ w, w < 9 → k < w → nI k - nI w + 1 ≤ 0 := by decide +kernel
theorem td_315 {post : Int32 → St0 → Prop} {mc ms kc ks : Nat} {ln iv : Int32} {a1 a2 a3 a4 a5 a6 a7 a8 a9 a10 a11 a12 a13 a14 : Nat → Int32} {k t : Nat} {v : Int32} (hk : k < 9) (hk0 : 0 < k) (ht : t ≤ 3 + 4 * k) (hH : td_H (td_V k) (td_Q k) (td_N k v) (3 + 4 * k) a6 a7 a8 a9 a10 a11 a12 a13 a14) (hM : td_M a5 (td_N k v t)) (hpost : post 1 ()) :
    ∀ d w, w + d = 9 → 0 < w → wL_lawOf_315 post mc ms v (nI k) (nI (3 + 4 * k)) (nI t) (nI (td_I k t)) (nI (td_Q k t)) (nI ((td_I k t + 3) / 4)) (nI ((td_I k t + 2) / 4)) kc ks ln iv (nI t) (nI (3 + 4 * k)) a1 a2 a3 a4 a5 a6 a7 a8 a9 a10 a11 a12 a13 a14 (d + 1) (nI w) := by
  have hI := td_I4 k t
  intro d
  induction d with
  | zero =>
    intro w hw hw0
    refine pk_lt 8 w (fun _ => ?_) (fun z => absurd z (by omega))
    refine td_lw0 (x := 2) (by omega) ht (by omega) hH ?_
    rw [td_l2 k hk hk0 t (by omega) ht]
    refine pk_eq ((td_I k t + 3) / 4) 0 (fun z => ?_) (fun z => ?_)
    · rw [if_pos z]
      exact td_434 hk hk0 ht hH hM hpost
    · rw [if_neg z, td_e4, show nI (4 * ((td_I k t + 3) / 4)) - 1 = nI (4 * ((td_I k t + 3) / 4) - 1) from pk_sub (show 1 ≤ 4 * ((td_I k t + 3) / 4) by omega)]
      exact td_434 hk hk0 ht hH hM hpost
  | succ d ih =>
    intro w hw hw0
    have hc : a5 (6 + w % 8) = nI (if w ≤ k ∧ k + 1 - w ≤ (td_I k t + 2) / 4 then k + 1 - w else 0) * v := by
      obtain ⟨hB, hA⟩ := td_ac k hk hk0 t (by omega) ht w (by omega) hw0
      rw [hM _ (by omega)]
      unfold td_N
      rw [hB, hA, nI_0, Int32.add_zero]
    have hl := td_lc k hk hk0 t (by omega) ht w (by omega) hw0
    have hJ := ih (w + 1) (by omega) (by omega)
    refine pk_lt 8 w (fun z => absurd z (by omega)) (fun _ => nm_e ?_)
    by_cases hwk : w ≤ k
    · have e : nI k - nI w + 1 = nI (k + 1 - w) := by
        rw [pk_sub hwk, nI_1, show k - w + 1 = k + 1 - w by omega]
      rw [e]
      have n0 : ¬ nI (k + 1 - w) ≤ 0 := nI_nle (by omega) (by omega)
      refine br_f n0 ?_
      refine pk_lt ((td_I k t + 2) / 4) (k + 1 - w) (fun z => ?_) (fun z => ?_)
      · rw [if_neg (by omega), nI_0, Int32.zero_mul] at hc
        rw [if_neg (by omega)] at hl
        unfold wL_lawOf_350
        exact td_351 hk hk0 ht (by omega) hH hc (Or.inl ⟨Or.inr (nI_lt z (by omega)), hl⟩) hJ
      · rw [if_pos ⟨hwk, z⟩] at hc hl
        exact td_351 hk hk0 ht (by omega) hH hc (Or.inr ⟨n0, nI_nlt z (by omega), by rw [hl, td_e4]⟩) hJ
    · have n0 := td_ng k hk w (by omega) (by omega)
      rw [if_neg (by omega), nI_0, Int32.zero_mul] at hc
      rw [if_neg (by omega)] at hl
      refine br_t n0 ?_
      unfold wL_lawOf_350
      exact td_351 hk hk0 ht (by omega) hH hc (Or.inl ⟨Or.inl n0, hl⟩) hJ
theorem td_297 {post : Int32 → St0 → Prop} {mc ms kc ks : Nat} {ln iv : Int32} {a1 a2 a3 a4 a5 a6 a7 a8 a9 a10 a11 a12 a13 a14 : Nat → Int32} {k t : Nat} {v z : Int32} (hk : k < 9) (hk0 : 0 < k) (ht : t ≤ 3 + 4 * k) (hH : td_H (td_V k) (td_Q k) (td_N k v) (3 + 4 * k) a6 a7 a8 a9 a10 a11 a12 a13 a14) (hM : td_M a5 (td_N k v t)) (hpost : post 1 ()) :
    wL_lawOf_297 post mc ms v (nI k) (nI (3 + 4 * k)) (nI t) (nI (td_I k t)) (nI (td_Q k t)) (nI ((td_I k t + 3) / 4)) (nI ((td_I k t + 2) / 4)) z z kc ks ln iv (nI t) (nI (3 + 4 * k)) a1 a2 a3 a4 a5 a6 a7 a8 a9 a10 a11 a12 a13 a14 := by
  unfold wL_lawOf_297
  refine br_t rfl (td_var (j := 5) (by omega) (br_t (by rw [hM 5 (by omega), td_N5]) ⟨9, ?_⟩))
  exact td_315 hk hk0 ht hH hM hpost 8 1 (by omega) (by omega)
theorem td_214 {post : Int32 → St0 → Prop} {mc ms kc ks : Nat} {ln iv : Int32} {a1 a2 a3 a4 a5 a6 a7 a8 a9 a10 a11 a12 a13 a14 : Nat → Int32} {k t : Nat} {v : Int32} (hk : k < 9) (hk0 : 0 < k) (ht : t ≤ 3 + 4 * k) (hH : td_H (td_V k) (td_Q k) (td_N k v) (3 + 4 * k) a6 a7 a8 a9 a10 a11 a12 a13 a14) (hM : td_M a5 (td_N k v 0)) (hpost : post 1 ()) :
    wL_lawOf_214 post mc ms v (nI k) (nI (3 + 4 * k)) (nI t) (nI (td_I k t)) (nI (td_Q k t)) kc ks ln iv (nI 0) (nI (3 + 4 * k)) a1 a2 a3 a4 a5 a6 a7 a8 a9 a10 a11 a12 a13 a14 := by
  have hT : 3 + 4 * k < 50 := by omega
  have hF : td_F (td_V k) (td_N k v) (3 + 4 * k) := td_FN (n := 7) v hk hk0 (by omega)
  have hI := td_I4 k t
  have ed : ∀ c, c < 4 → nI (td_I k t + c) / 4 = nI ((td_I k t + c) / 4) := fun c hc => pk_div (d := 4) (by omega) (by omega) (by omega)
  unfold wL_lawOf_214
  refine td_goTo hT (by omega) ht hH hF hM (fun b5 hb => br_t rfl (td_time (br_t rfl ?_)))
  refine And.intro (by decide) (nm_r (e' := nI ((td_I k t + 3) / 4)) (by rw [← ed 3 (by omega), ← nI_add]; rfl) (And.intro (by decide) (nm_r (e' := nI ((td_I k t + 2) / 4)) (by rw [← ed 2 (by omega), ← nI_add]; rfl) (And.intro (by decide) (nm_r (e' := nI ((td_I k t + 1) / 4)) (by rw [← ed 1 (by omega), ← nI_add]; rfl) ?_)))))
  refine td_var (j := 2) (by omega) (br_t (by rw [hb 2 (by omega), td_N2]) (td_var (j := 0) (by omega) ?_))
  rw [hb 0 (by omega), td_NB]
  refine pk_eq t 0 (fun z => ?_) (fun z => ?_)
  · rw [if_pos z]
    exact td_297 hk hk0 ht hH hb hpost
  · rw [if_neg z, pk_sub (show (td_I k t + 1) / 4 ≤ k by omega)]
    exact td_297 hk hk0 ht hH hb hpost
theorem td_181 {post : Int32 → St0 → Prop} {mc ms kc ks : Nat} {ln iv : Int32} {a1 a2 a3 a4 a5 a6 a7 a8 a9 a10 a11 a12 a13 a14 : Nat → Int32} {k t : Nat} {v : Int32} (hk : k < 9) (hk0 : 0 < k) (ht : t ≤ 3 + 4 * k) (hH : td_H (td_V k) (td_Q k) (td_N k v) (3 + 4 * k) a6 a7 a8 a9 a10 a11 a12 a13 a14) (hM : td_M a5 (td_N k v 0)) (hpost : post 1 ()) :
    wL_lawOf_181 post mc ms v (nI k) (nI (3 + 4 * k)) (nI t) (nI (td_I k t)) kc ks ln iv (nI 0) (nI (3 + 4 * k)) a1 a2 a3 a4 a5 a6 a7 a8 a9 a10 a11 a12 a13 a14 := by
  have hI := td_I4 k t
  have h214 := td_214 (mc := mc) (ms := ms) (kc := kc) (ks := ks) (ln := ln) (iv := iv) (a1 := a1) (a2 := a2) (a3 := a3) (a4 := a4) hk hk0 ht hH hM hpost
  obtain ⟨n1, n2, n3⟩ := td_nx k hk hk0 t (by omega) ht
  unfold wL_lawOf_181
  refine pk_le 2 t (fun z => ?_) (fun z => ?_)
  · rw [td_e4]
    refine pk_eq (td_I k t) (4 * k) (fun g => ?_) (fun g => And.intro (by decide) ?_)
    · rw [n1 z g] at h214
      exact h214
    · rw [show nI (td_I k t) - nI (td_I k t) / 4 * 4 = nI (td_I k t % 4) from pk_rem (d := 4) (by omega) (by omega) (by omega), show 2 + nI (td_I k t % 4) = nI (2 + td_I k t % 4) from nI_add 2 _, ← n2 z g]
      exact h214
  · rw [n3 z] at h214
    exact h214
theorem td_init {post : St2 → Prop} {k mc ms : Nat} (hk : k < 9) (hk0 : 0 < k) (hmc : 14 ≤ mc) (hms : 1405 ≤ ms) (H : ∀ pr tt a1 a2 a3 a4 a5 a6 a7 a8 a9 a10 a11 a12 a13 a14, td_P k 0 a1 a2 a3 a4 → post (nI 0, 0, pr, tt, a1, a2, a3, a4, a5, a6, a7, a8, a9, a10, a11, a12, a13, a14)) : wpX_init post mc ms (0, 0, 0, 0) := by
  unfold wpX_init
  dsimp only
  refine ⟨by omega, by omega, by omega, by omega, by omega, by omega, by omega, by omega, by omega, by omega, by omega, by omega, by omega, by omega, by omega, by omega, by omega, by omega, by omega, by omega, by omega, by omega, by omega, by omega, by omega, by omega, by omega, by omega, ?_⟩
  exact td_exec (n := 0) (v := 0) hk hk0 (by omega) (fun i hi => absurd hi (by omega)) (fun b5 b6 b7 b8 b9 b10 b11 b12 b13 b14 _ _ => H _ _ _ _ _ _ _ _ _ _ _ _ _ _ _ _ (fun i hi => absurd hi (by omega)))
theorem td_lawOf {post : Int32 → St0 → Prop} {mc ms : Nat} {p0 p1 p2 p3 : Int32} (hmc : 15 ≤ mc) (hms : 1423 ≤ ms) (hpost : post 1 ()) : wpL_lawOf post mc ms () p0 p1 p2 p3 := by
  obtain ⟨j, hj, ej⟩ := pk_andE p0 (m := 7) 3 (by decide)
  obtain ⟨m, hm, em⟩ := pk_andE p2 (m := 255) 8 (by decide)
  have hk : j + 1 < 9 := by omega
  have hk0 : 0 < j + 1 := by omega
  generalize hkk : j + 1 = k at hk hk0
  have ek : 1 + (p0 &&& 7) = nI k := by
    rw [ej, ← hkk, Nat.add_comm j 1]
    exact nI_add 1 j
  unfold wpL_lawOf
  refine nm_r ek ⟨by omega, by omega, 14, 1405, by omega, by omega, ?_⟩
  refine td_init hk hk0 (by omega) (by omega) (fun _ _ _ _ _ _ _ _ _ _ _ _ _ _ _ _ hP => ?_)
  refine td_emit (n := 0) hk hk0 (by omega) hP (fun _ _ _ _ _ _ _ _ _ _ _ _ _ _ _ _ hP => ?_)
  refine td_emit (n := 1) hk hk0 (by omega) hP (fun _ _ _ _ _ _ _ _ _ _ _ _ _ _ _ _ hP => ?_)
  refine td_emit (n := 2) hk hk0 (by omega) hP (fun _ _ _ _ _ _ _ _ _ _ _ _ _ _ _ _ hP => ?_)
  refine td_emit (n := 3) hk hk0 (by omega) hP (fun _ _ _ _ _ _ _ _ _ _ _ _ _ _ _ _ hP => ?_)
  refine td_emit (n := 4) hk hk0 (by omega) hP (fun _ _ _ _ _ _ _ _ _ _ _ _ _ _ _ _ hP => ?_)
  refine td_emit (n := 5) hk hk0 (by omega) hP (fun _ _ _ _ _ _ _ _ _ _ _ _ _ _ _ _ hP => ?_)
  refine td_emit (n := 6) hk hk0 (by omega) hP (fun _ _ _ _ _ _ _ _ _ _ _ _ _ _ _ _ hP => ?_)
  refine br_t rfl (nm_r (e' := nI (3 + 4 * k)) (by rw [td_e24, nI_1, show 2 + 4 * k + 1 = 3 + 4 * k by omega]) ?_)
  refine td_input hk hk0 hP (fun _ _ _ _ _ _ _ _ _ _ hM hH => ?_)
  refine br_t rfl (td_steps (br_t rfl (td_time (br_t rfl ?_))))
  rw [em, nI_1]
  have er : nI m - nI m / nI (3 + 4 * k + 1) * nI (3 + 4 * k + 1) = nI (m % (3 + 4 * k + 1)) := pk_rem (by omega) (by omega) (by omega)
  have ht : m % (3 + 4 * k + 1) ≤ 3 + 4 * k := by
    have := Nat.mod_lt m (show 0 < 3 + 4 * k + 1 by omega)
    omega
  refine And.intro (nI_ne0 (by omega) (by omega)) (nm_r er ?_)
  generalize m % (3 + 4 * k + 1) = t at ht
  have h181 := fun (ln iv : Int32) (a1 a2 a3 a4 a5 a6 a7 a8 a9 a10 a11 a12 a13 a14 : Nat → Int32) hH hM => td_181 (mc := mc) (ms := ms) (kc := 1 + 14) (ks := 18 + 1405) (v := p1) (ln := ln) (iv := iv) (a1 := a1) (a2 := a2) (a3 := a3) (a4 := a4) (a5 := a5) (a6 := a6) (a7 := a7) (a8 := a8) (a9 := a9) (a10 := a10) (a11 := a11) (a12 := a12) (a13 := a13) (a14 := a14) hk hk0 ht hH hM hpost
  refine pk_le 2 t (fun z => ?_) (fun z => ?_)
  · rw [show nI t - 2 = nI (t - 2) from pk_sub z, td_e4]
    refine pk_le (t - 2) (4 * k) (fun g => ?_) (fun g => ?_)
    · have e : td_I k t = t - 2 := by
        unfold td_I
        split <;> omega
      rw [e] at h181
      exact h181 _ _ _ _ _ _ _ _ _ _ _ _ _ _ _ _ hH hM
    · have e : td_I k t = 4 * k := by
        unfold td_I
        split <;> omega
      rw [e] at h181
      exact h181 _ _ _ _ _ _ _ _ _ _ _ _ _ _ _ _ hH hM
  · have e : td_I k t = 0 := by
      unfold td_I
      split <;> omega
    rw [e] at h181
    exact h181 _ _ _ _ _ _ _ _ _ _ _ _ _ _ _ _ hH hM
end
section
theorem td_cellAt {post : Int32 → Prop} {L : Nat} {xs : Nat → Int32} {i : Nat} (hL : L ≤ 4) (hi : i < 4) (H : ∀ r, post r) : wpL_cellAt post L xs () (nI i) := by
  unfold wpL_cellAt
  exact pk_le L i (fun _ => H _) (fun z => ⟨vp_in_nI z (by omega), H _⟩)
theorem i_vc (xs : Nat → Int32) (L : Nat) (hL : L ≤ 4) : wpL_law (fun r => r = 1) L xs := by
  unfold wpL_law
  refine td_cellAt (i := 0) hL (by omega) (fun r1 => td_cellAt (i := 1) hL (by omega) (fun r2 => td_cellAt (i := 2) hL (by omega) (fun r3 => td_cellAt (i := 3) hL (by omega) (fun r4 => ⟨480, 7680, by omega, by omega, ?_⟩))))
  exact td_lawOf (by omega) (by omega) rfl
end
