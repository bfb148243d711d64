section
/-! ===== numbers, the picture ===== -/
theorem sm_ex {P : Nat → Prop} (n : Nat) (h : P n) : ∃ n, P n := ⟨n, h⟩
theorem sm_ne {x a b : Int32} (h : x = a) (hn : ¬ a = b) : ¬ x = b := fun e => hn (h.symm.trans e)
theorem sm_b : ∀ n, n < 128 → (nI n).toInt8.toInt32 = nI n := by decide +kernel
theorem sm_inc : ∀ n, n < 100 → (nI n + 1).toInt8.toInt32 = nI (n + 1) := by decide +kernel
theorem sm_dec : ∀ n, n < 100 → (nI (n + 1) - 1).toInt8.toInt32 = nI n := by decide +kernel
theorem sm_vb {n : Nat} (h : n < 128) : vp_nar .byte (nI n) = nI n := by
  rw [vp_nar_byte, sm_b n h]
theorem sm_vm : vp_nar .byte (-1) = -1 := by
  rw [vp_nar_byte]
  decide
theorem sm_m1 {k : Nat} (h : k < 2 ^ 31) : ¬ (-1 : Int32) = nI k := by
  intro e
  have h1 : (-1 : Int32) < 0 := by decide
  rw [e] at h1
  exact nI_pos h h1
/-- the rooms: c in slot k, m in every other -/
def sm_r (m k c j : Nat) : Nat := if j = k then c else m
theorem sm_r_k (m k c : Nat) : sm_r m k c k = c := by simp [sm_r]
theorem sm_r_n {m k c j : Nat} (h : j ≠ k) : sm_r m k c j = m := by simp [sm_r, h]
theorem sm_r_m (m k j : Nat) : sm_r m k m j = m := by simp [sm_r]
theorem sm_r_le {m k c : Nat} (hm : m ≤ 3) (hc : c ≤ 3) (j : Nat) : sm_r m k c j ≤ 3 := by
  unfold sm_r
  split <;> omega
/-- job 0 sits in slot q (nowhere if q is no slot), jobs 1 and 2 nowhere; the loads say so -/
def sm_Q (q : Nat) (a6 a7 : Nat → Int32) : Prop :=
  a6 1 = -1 ∧ a6 2 = -1 ∧ (q < 12 → a6 0 = nI q) ∧ (¬ q < 12 → a6 0 = -1) ∧ ∀ j, j < 12 → a7 j = nI (if j = q then 1 else 0)
/-- q is the first slot of f..t with room, or no slot and there is none -/
def sm_F (f t : Nat) (r : Nat → Nat) (q : Nat) : Prop :=
  (q < 12 → f ≤ q ∧ q ≤ t ∧ 0 < r q) ∧ (∀ j, f ≤ j → j ≤ t → j < q → r j = 0)
/-- what is known of the arrays: U = 1 if there is a job 0 (window f..t, worth w), U = 0 if there is none -/
def sm_K (U m k c f t w q : Nat) (a1 a2 a3 a4 a5 a6 a7 : Nat → Int32) : Prop :=
  a1 0 = nI U ∧ a1 1 = 0 ∧ a1 2 = 0 ∧ a2 0 = nI f ∧ a3 0 = nI t ∧ a4 0 = nI w ∧ (∀ j, j < 12 → a5 j = nI (sm_r m k c j)) ∧ sm_Q q a6 a7
/-- the job's place is the first one -/
def sm_O (U m k c f t w q : Nat) : Prop :=
  m ≤ 3 ∧ c ≤ 3 ∧ w ≤ 20 ∧ f ≤ t ∧ t ≤ 11 ∧ ((U = 0 ∧ ¬ q < 12) ∨ (U = 1 ∧ sm_F f t (sm_r m k c) q))
theorem sm_Qsit {q p : Nat} {a6 a7 : Nat → Int32} (h : sm_Q q a6 a7) (hq : ¬ q < 12) (hp : p < 12) :
    sm_Q p (upd a6 0 (nI p)) (upd a7 p ((a7 p + 1).toInt8.toInt32)) := by
  obtain ⟨h1, h2, h3, h4, h5⟩ := h
  refine ⟨by rw [pk_un (by omega)]; exact h1, by rw [pk_un (by omega)]; exact h2, fun _ => pk_us, fun z => absurd hp z, fun j hj => ?_⟩
  by_cases e : j = p
  · subst e
    rw [pk_us, h5 j hj, if_neg (by omega), if_pos rfl, sm_inc 0 (by omega)]
  · rw [pk_un e, h5 j hj, if_neg (by omega), if_neg e]
theorem sm_Qvac {q p : Nat} {a6 a7 : Nat → Int32} (h : sm_Q q a6 a7) (hq : q < 12) (hp : ¬ p < 12) :
    sm_Q p (upd a6 0 (-1)) (upd a7 q ((a7 q - 1).toInt8.toInt32)) := by
  obtain ⟨h1, h2, h3, h4, h5⟩ := h
  refine ⟨by rw [pk_un (by omega)]; exact h1, by rw [pk_un (by omega)]; exact h2, fun z => absurd z hp, fun _ => pk_us, fun j hj => ?_⟩
  by_cases e : j = q
  · subst e
    rw [pk_us, h5 j hj, if_pos rfl, if_neg (show ¬ j = p by omega), sm_dec 0 (by omega)]
  · rw [pk_un e, h5 j hj, if_neg e, if_neg (show ¬ j = p by omega)]
theorem sm_Q0 {q : Nat} {a6 a7 : Nat → Int32} (h : sm_Q q a6 a7) (hq : ¬ q < 12) {p : Nat} (hp : ¬ p < 12) : sm_Q p a6 a7 := by
  obtain ⟨h1, h2, h3, h4, h5⟩ := h
  refine ⟨h1, h2, fun z => absurd z hp, fun _ => h4 hq, fun j hj => ?_⟩
  rw [h5 j hj, if_neg (by omega), if_neg (by omega)]
theorem sm_Qcopy {q : Nat} {a6 a7 b6 b7 : Nat → Int32} (h : sm_Q q a6 a7) (h6 : ∀ j, j < 8 → b6 j = vp_nar .byte (a6 j)) (h7 : ∀ j, j < 12 → b7 j = vp_nar .byte (a7 j)) : sm_Q q b6 b7 := by
  obtain ⟨h1, h2, h3, h4, h5⟩ := h
  refine ⟨?_, ?_, fun z => ?_, fun z => ?_, fun j hj => ?_⟩
  · rw [h6 1 (by omega), h1, sm_vm]
  · rw [h6 2 (by omega), h2, sm_vm]
  · rw [h6 0 (by omega), h3 z, sm_vb (by omega)]
  · rw [h6 0 (by omega), h4 z, sm_vm]
  · rw [h7 j hj, h5 j hj]
    exact sm_vb (by split <;> omega)
/-- a slot is full just if it has no room (nobody sits anywhere) -/
theorem sm_full {q j : Nat} {r : Nat → Nat} {a5 a6 a7 : Nat → Int32} (h : sm_Q q a6 a7) (hq : ¬ q < 12) (h5 : ∀ j, j < 12 → a5 j = nI (r j)) (hr : ∀ j, r j ≤ 3) (hj : j < 12) : a5 j ≤ a7 j ↔ r j = 0 := by
  rw [h5 j hj, h.2.2.2.2 j hj, if_neg (by omega), nI_leI (by have := hr j; omega) (by omega)]
  omega
theorem sm_Fu {f t q x : Nat} {r : Nat → Nat} (h : sm_F f t r q) (h1 : f ≤ x) (h2 : x ≤ t) (h3 : x < 12) (h4 : 0 < r x) (h5 : ∀ j, f ≤ j → j < x → r j = 0) : q = x := by
  obtain ⟨g1, g2⟩ := h
  have a : ¬ x < q := fun z => by
    have := g2 x h1 h2 z
    omega
  obtain ⟨b1, b2, b3⟩ := g1 (by omega)
  by_cases e : q < x
  · have := h5 q b1 e
    omega
  · omega
theorem sm_Fn {f t q : Nat} {r : Nat → Nat} (h : sm_F f t r q) (h5 : ∀ j, f ≤ j → j ≤ t → r j = 0) : ¬ q < 12 := by
  intro z
  obtain ⟨b1, b2, b3⟩ := h.1 z
  have := h5 q b1 b2
  omega
end
section
/-! ===== place: vacate, sit, reachSitters, look, shift ===== -/
theorem sm_v0 {post : St2 → Prop} {le fs ff tk : Int32} {a1 a2 a3 a4 a5 a6 a7 a8 a9 a10 a11 a12 a13 a14 a15 : Nat → Int32} (h6 : a6 0 = -1) (H : post (3, le, fs, ff, tk, a1, a2, a3, a4, a5, a6, a7, a8, a9, a10, a11, a12, a13, a14, a15)) : wpX_vacate post (3, le, fs, ff, tk, a1, a2, a3, a4, a5, a6, a7, a8, a9, a10, a11, a12, a13, a14, a15) 0 :=
  ⟨pk_in 0 8 (by decide), nm_r (e' := -1) h6 (br_t (by decide) H)⟩
theorem sm_v1 {post : St2 → Prop} {q : Nat} {le fs ff tk : Int32} {a1 a2 a3 a4 a5 a6 a7 a8 a9 a10 a11 a12 a13 a14 a15 : Nat → Int32} (hq : q < 12) (h6 : a6 0 = nI q) (H : post (3, le, fs, ff, tk, a1, a2, a3, a4, a5, upd a6 0 (-1), upd a7 q ((a7 q - 1).toInt8.toInt32), a8, a9, a10, a11, a12, a13, a14, a15)) : wpX_vacate post (3, le, fs, ff, tk, a1, a2, a3, a4, a5, a6, a7, a8, a9, a10, a11, a12, a13, a14, a15) 0 := by
  refine ⟨pk_in 0 8 (by decide), nm_r (e' := nI q) h6 (br_f (nI_pos (by omega)) ⟨pk_in q 12 hq, pk_in q 12 hq, nm_r (e' := upd a7 q ((a7 q - 1).toInt8.toInt32)) ?_ ⟨pk_in 0 8 (by decide), nm_r (e' := upd a6 0 (-1)) rfl H⟩⟩)⟩
  rw [nI_clamp (by omega)]
theorem sm_si {post : St2 → Prop} {q : Nat} {le fs ff tk : Int32} {a1 a2 a3 a4 a5 a6 a7 a8 a9 a10 a11 a12 a13 a14 a15 : Nat → Int32} (hq : q < 12) (H : post (3, le, fs, ff, tk, a1, a2, a3, a4, a5, upd a6 0 (nI q), upd a7 q ((a7 q + 1).toInt8.toInt32), a8, a9, a10, a11, a12, a13, a14, a15)) : wpX_sit post (3, le, fs, ff, tk, a1, a2, a3, a4, a5, a6, a7, a8, a9, a10, a11, a12, a13, a14, a15) 0 (nI q) := by
  refine ⟨pk_in 0 8 (by decide), nm_r (e' := upd a6 0 (nI q)) ?_ ⟨pk_in q 12 hq, pk_in q 12 hq, nm_r (e' := upd a7 q ((a7 q + 1).toInt8.toInt32)) ?_ H⟩⟩
  · rw [sm_b q (by omega)]
    rfl
  · rw [nI_clamp (by omega)]
theorem sm_rs {post : St2 → Prop} (k : Nat) {x : Int32} {le fs ff tk : Int32} {a1 a2 a3 a4 a5 a6 a7 a8 a9 a10 a11 a12 a13 a14 a15 : Nat → Int32} (hk : k < 2 ^ 31) (h0 : a6 0 = -1) (h1 : a6 1 = -1) (h2 : a6 2 = -1) (H : post (3, le, fs, ff, tk, a1, a2, a3, a4, a5, a6, a7, a8, a9, a10, a11, a12, a13, a14, a15)) : wpX_reachSitters post (3, le, fs, ff, tk, a1, a2, a3, a4, a5, a6, a7, a8, a9, a10, a11, a12, a13, a14, a15) (nI k) x := by
  refine ⟨4, br_f (by decide) ⟨pk_in 0 8 (by decide), br_f (sm_ne (a := -1) h0 (sm_m1 hk)) (nm_r (e' := 1) (by decide) ?_)⟩⟩
  refine br_f (by decide) ⟨pk_in 1 8 (by decide), br_f (sm_ne (a := -1) h1 (sm_m1 hk)) (nm_r (e' := 2) (by decide) ?_)⟩
  refine br_f (by decide) ⟨pk_in 2 8 (by decide), br_f (sm_ne (a := -1) h2 (sm_m1 hk)) (nm_r (e' := 3) (by decide) ?_)⟩
  exact br_t (by decide) H
theorem sm_lk {post : St2 → Prop} {t : Nat} {le ff tk : Int32} {a1 a2 a3 a4 a5 a6 a7 a8 a9 a10 a11 a12 a13 a14 a15 : Nat → Int32} (ht : t ≤ 11) (h3 : a3 0 = nI t) (h60 : a6 0 = -1) (h61 : a6 1 = -1) (h62 : a6 2 = -1) : ∀ d i : Nat, i + d = t + 1 →
    ((∀ s, i ≤ s → s ≤ t → a5 s ≤ a7 s) → post (3, le, -1, ff, tk, a1, a2, a3, a4, a5, a6, a7, a8, a9, a10, a11, a12, a13, a14, a15)) →
    (∀ q, i ≤ q → q ≤ t → ¬ a5 q ≤ a7 q → (∀ s, i ≤ s → s < q → a5 s ≤ a7 s) → post (3, le, nI q, 0, tk, a1, a2, a3, a4, a5, a6, a7, a8, a9, a10, a11, a12, a13, a14, a15)) →
    wX_look_7 post 0 (d + 2) (nI i) 3 le (-1) ff tk a1 a2 a3 a4 a5 a6 a7 a8 a9 a10 a11 a12 a13 a14 a15 := by
  intro d
  induction d with
  | zero =>
    intro i hi H0 H1
    refine ⟨pk_in 0 8 (by decide), br_t ?_ (H0 (fun s h1 h2 => absurd h2 (by omega)))⟩
    show a3 0 < nI i
    rw [h3]
    exact nI_lt (by omega) (by omega)
  | succ d ih =>
    intro i hi H0 H1
    refine ⟨pk_in 0 8 (by decide), br_f ?_ (br_f (by decide) ⟨pk_in i 12 (by omega), pk_in i 12 (by omega), br_c (fun g => ?_) (fun g => ?_)⟩)⟩
    · show ¬ a3 0 < nI i
      rw [h3]
      exact nI_nlt (by omega) (by omega)
    · rw [nI_clamp (by omega)] at g
      refine sm_rs i (by omega) h60 h61 h62 (nm_r (nI_1 i) (ih (i + 1) (by omega) (fun h => H0 (fun s h1 h2 => ?_)) (fun q h1 h2 h3 h4 => H1 q (by omega) h2 h3 (fun s g1 g2 => ?_))))
      · by_cases e : s = i
        · rw [e]; exact g
        · exact h s (by omega) h2
      · by_cases e : s = i
        · rw [e]; exact g
        · exact h4 s (by omega) g2
    · rw [nI_clamp (by omega)] at g
      have X := H1 i (Nat.le_refl i) (by omega) g (fun s h1 h2 => absurd h1 (by omega))
      exact nm_r (nI_1 i) ⟨pk_in 0 8 (by decide), br_c (fun _ => X) (fun _ => br_t (nI_pos' (by omega)) X)⟩
theorem sm_lo {post : St2 → Prop} {p : Int32} {f t : Nat} {le ff tk : Int32} {a1 a2 a3 a4 a5 a6 a7 a8 a9 a10 a11 a12 a13 a14 a15 : Nat → Int32} (hp : p = 0) (hf : f ≤ t) (ht : t ≤ 11) (h2 : a2 0 = nI f) (h3 : a3 0 = nI t) (h60 : a6 0 = -1) (h61 : a6 1 = -1) (h62 : a6 2 = -1)
    (H0 : (∀ s, f ≤ s → s ≤ t → a5 s ≤ a7 s) → post (3, le, -1, ff, tk, a1, a2, a3, a4, a5, a6, a7, a8, a9, a10, a11, a12, a13, a14, a15))
    (H1 : ∀ q, f ≤ q → q ≤ t → ¬ a5 q ≤ a7 q → (∀ s, f ≤ s → s < q → a5 s ≤ a7 s) → post (3, le, nI q, 0, tk, a1, a2, a3, a4, a5, a6, a7, a8, a9, a10, a11, a12, a13, a14, a15)) :
    wpX_look post (3, le, -1, ff, tk, a1, a2, a3, a4, a5, a6, a7, a8, a9, a10, a11, a12, a13, a14, a15) p := by
  subst hp
  exact ⟨pk_in 0 8 (by decide), nm_r (e' := nI f) h2 (sm_ex (t + 1 - f + 2) (sm_lk ht h3 h60 h61 h62 (t + 1 - f) f (by omega) H0 H1))⟩
theorem sm_sh {post : St2 → Prop} {q : Nat} {le tk : Int32} {a1 a2 a3 a4 a5 a6 a7 a8 a9 a10 a11 a12 a13 a14 a15 : Nat → Int32} (hq : q < 12) (h6 : a6 0 = -1) (h9 : a9 0 = -1)
    (H : post (3, le, nI q, 0, tk, a1, a2, a3, a4, a5, upd a6 0 (nI q), upd a7 q ((a7 q + 1).toInt8.toInt32), a8, a9, a10, a11, a12, a13, a14, a15)) : wpX_shift post (3, le, nI q, 0, tk, a1, a2, a3, a4, a5, a6, a7, a8, a9, a10, a11, a12, a13, a14, a15) := by
  refine ⟨2, br_f (by decide) (br_f (by decide) ⟨pk_in 0 8 (by decide), nm_r (e' := -1) h6 ?_⟩)⟩
  refine sm_v0 h6 (sm_si hq ⟨pk_in 0 8 (by decide), nm_r (e' := -1) h9 (nm_r (e' := 1) (by decide) ?_)⟩)
  exact br_f (by decide) (br_t (by decide) H)
theorem sm_pl {post : Int32 → St2 → Prop} {f t : Nat} {le fs ff tk : Int32} {a1 a2 a3 a4 a5 a6 a7 a8 a9 a10 a11 a12 a13 a14 a15 : Nat → Int32} (hf : f ≤ t) (ht : t ≤ 11) (h2 : a2 0 = nI f) (h3 : a3 0 = nI t) (h60 : a6 0 = -1) (h61 : a6 1 = -1) (h62 : a6 2 = -1)
    (H0 : ∀ le fs ff a8 a9 a10, a8 0 = 1 → a8 1 = 0 → a8 2 = 0 → (∀ s, f ≤ s → s ≤ t → a5 s ≤ a7 s) → post 0 (3, le, fs, ff, tk, a1, a2, a3, a4, a5, a6, a7, a8, a9, a10, a11, a12, a13, a14, a15))
    (H1 : ∀ le fs ff a8 a9 a10 q, f ≤ q → q ≤ t → ¬ a5 q ≤ a7 q → (∀ s, f ≤ s → s < q → a5 s ≤ a7 s) → post 1 (3, le, fs, ff, tk, a1, a2, a3, a4, a5, upd a6 0 (nI q), upd a7 q ((a7 q + 1).toInt8.toInt32), a8, a9, a10, a11, a12, a13, a14, a15)) :
    wpX_place post (3, le, fs, ff, tk, a1, a2, a3, a4, a5, a6, a7, a8, a9, a10, a11, a12, a13, a14, a15) 0 := by
  refine pk_loop (fun n i s => wX_place_2 post 0 3 le fs ff tk n (nI i) a1 a2 a3 a4 a5 a6 a7 s a9 a10 a11 a12 a13 a14 a15) (fun i s => ∀ j, j < i → s j = 0) 8 0 a8 (by omega) (fun j hj => absurd hj (by omega)) ?_ ?_
  · intro n s hs
    refine br_t (by decide) ⟨pk_in 0 8 (by decide), nm_r (e' := upd s 0 1) rfl ⟨pk_in 0 8 (by decide), nm_r (e' := upd a9 0 (-1)) rfl (nm_r (e' := upd a10 0 0) (by rw [show (0 : Int32).toInt8.toInt32 = 0 by decide]) ?_)⟩⟩
    refine ⟨2, br_f (by decide) (br_f (by decide) (br_f (by decide) ⟨pk_in 0 8 (by decide), sm_lo pk_us hf ht h2 h3 h60 h61 h62 (fun hh => ?_) (fun q g1 g2 g3 g4 => ?_)⟩))⟩
    · exact nm_r (e' := 1) (by decide) (br_t (by decide) (br_f (by decide) (H0 _ _ _ _ _ _ pk_us (by rw [pk_un (by omega)]; exact hs 1 (by omega)) (by rw [pk_un (by omega)]; exact hs 2 (by omega)) hh)))
    · exact nm_r (e' := 1) (by decide) (br_t (by decide) (br_t (nI_pos' (by omega)) (sm_sh (by omega) h60 pk_us (H1 _ _ _ _ _ _ q g1 g2 g3 g4))))
  · intro n i s hi hs hw
    refine pk_le 8 i (fun z => absurd z (by omega)) (fun _ => ⟨pk_in i 8 hi, nm_r (e' := upd s i 0) (by rw [nI_clamp (by omega)]) (nm_r (nI_1 i) (hw _ (fun j hj => ?_)))⟩)
    by_cases e : j = i
    · rw [e, pk_us]
    · rw [pk_un e]
      exact hs j (by omega)
end
section
/-! ===== contest, bestWaitingAfter, fillFromBest ===== -/
theorem sm_lr {post : Int32 → Prop} {le fs ff tk : Int32} {a1 a2 a3 a4 a5 a6 a7 a8 a9 a10 a11 a12 a13 a14 a15 : Nat → Int32} (h0 : a8 0 = 1) (h1 : a8 1 = 0) (h2 : a8 2 = 0) (H : post 0) : wpX_leastReached post (3, le, fs, ff, tk, a1, a2, a3, a4, a5, a6, a7, a8, a9, a10, a11, a12, a13, a14, a15) := by
  refine ⟨4, br_f (by decide) ⟨pk_in 0 8 (by decide), br_f (sm_ne (a := 1) h0 (by decide)) (br_t (by decide) (nm_r (e' := 1) (by decide) ?_))⟩⟩
  refine br_f (by decide) ⟨pk_in 1 8 (by decide), br_t h1 (nm_r (e' := 2) (by decide) ?_)⟩
  refine br_f (by decide) ⟨pk_in 2 8 (by decide), br_t h2 (nm_r (e' := 3) (by decide) ?_)⟩
  exact br_t (by decide) H
theorem sm_co {post : St2 → Prop} {f t : Nat} {le fs ff tk : Int32} {a1 a2 a3 a4 a5 a6 a7 a8 a9 a10 a11 a12 a13 a14 a15 : Nat → Int32} (hf : f ≤ t) (ht : t ≤ 11) (h2 : a2 0 = nI f) (h3 : a3 0 = nI t) (h60 : a6 0 = -1) (h61 : a6 1 = -1) (h62 : a6 2 = -1)
    (H0 : ∀ le fs ff a8 a9 a10, (∀ s, f ≤ s → s ≤ t → a5 s ≤ a7 s) → post (3, le, fs, ff, tk, a1, a2, a3, a4, a5, a6, a7, a8, a9, a10, a11, a12, a13, a14, a15))
    (H1 : ∀ le fs ff a8 a9 a10 q, f ≤ q → q ≤ t → ¬ a5 q ≤ a7 q → (∀ s, f ≤ s → s < q → a5 s ≤ a7 s) → post (3, le, fs, ff, tk, a1, a2, a3, a4, a5, upd a6 0 (nI q), upd a7 q ((a7 q + 1).toInt8.toInt32), a8, a9, a10, a11, a12, a13, a14, a15)) :
    wpX_contest post (3, le, fs, ff, tk, a1, a2, a3, a4, a5, a6, a7, a8, a9, a10, a11, a12, a13, a14, a15) 0 := by
  unfold wpX_contest
  refine sm_pl hf ht h2 h3 h60 h61 h62 (fun le fs ff a8 a9 a10 g0 g1 g2 hh => ?_) (fun le fs ff a8 a9 a10 q g1 g2 g3 g4 => ?_)
  · exact br_t rfl (sm_lr g0 g1 g2 (br_t rfl (H0 _ _ _ _ _ _ hh)))
  · exact br_f (by decide) (H1 _ _ _ _ _ _ q g1 g2 g3 g4)
/-- nobody waits -/
theorem sm_bA {post : Int32 → Prop} {x : Int32} {le fs ff tk : Int32} {a1 a2 a3 a4 a5 a6 a7 a8 a9 a10 a11 a12 a13 a14 a15 : Nat → Int32} (h0 : a1 0 = 0 ∨ 0 ≤ a6 0) (h1 : a1 1 = 0) (h2 : a1 2 = 0) (H : post (-1)) : wpX_bestWaitingAfter post (3, le, fs, ff, tk, a1, a2, a3, a4, a5, a6, a7, a8, a9, a10, a11, a12, a13, a14, a15) x := by
  refine ⟨4, br_f (by decide) ⟨pk_in 0 8 (by decide), ?_⟩⟩
  have R : wX_bestWaitingAfter_4 post x 3 le fs ff tk a1 a2 a3 a4 a5 a6 a7 a8 a9 a10 a11 a12 a13 a14 a15 3 (-1) 1 := by
    refine br_f (by decide) ⟨pk_in 1 8 (by decide), br_t h1 (nm_r (e' := 2) (by decide) ?_)⟩
    refine br_f (by decide) ⟨pk_in 2 8 (by decide), br_t h2 (nm_r (e' := 3) (by decide) ?_)⟩
    exact br_t (by decide) H
  by_cases e : a1 0 = 0
  · exact br_t e (nm_r (e' := 1) (by decide) R)
  · exact br_f e ⟨pk_in 0 8 (by decide), br_t (h0.resolve_left e) (nm_r (e' := 1) (by decide) R)⟩
/-- job 0 waits, and all are asked -/
theorem sm_bB {post : Int32 → Prop} {le fs ff tk : Int32} {a1 a2 a3 a4 a5 a6 a7 a8 a9 a10 a11 a12 a13 a14 a15 : Nat → Int32} (h0 : ¬ a1 0 = 0) (h6 : a6 0 = -1) (h1 : a1 1 = 0) (h2 : a1 2 = 0) (H : post 0) : wpX_bestWaitingAfter post (3, le, fs, ff, tk, a1, a2, a3, a4, a5, a6, a7, a8, a9, a10, a11, a12, a13, a14, a15) (-1) := by
  have h6' : ¬ 0 ≤ a6 0 := by
    rw [h6]
    decide
  refine ⟨4, br_f (by decide) ⟨pk_in 0 8 (by decide), br_f h0 ⟨pk_in 0 8 (by decide), br_f h6' (br_t (by decide) ?_)⟩⟩⟩
  unfold wX_bestWaitingAfter_43 wX_bestWaitingAfter_48
  refine br_f (by decide) (br_t (by decide) (nm_r (e' := 1) (by decide) ?_))
  refine br_f (by decide) ⟨pk_in 1 8 (by decide), br_t h1 (nm_r (e' := 2) (by decide) ?_)⟩
  refine br_f (by decide) ⟨pk_in 2 8 (by decide), br_t h2 (nm_r (e' := 3) (by decide) ?_)⟩
  exact br_t (by decide) H
/-- job 0 waits, and those behind it are asked -/
theorem sm_bC {post : Int32 → Prop} {le fs ff tk : Int32} {a1 a2 a3 a4 a5 a6 a7 a8 a9 a10 a11 a12 a13 a14 a15 : Nat → Int32} (h0 : ¬ a1 0 = 0) (h6 : a6 0 = -1) (h1 : a1 1 = 0) (h2 : a1 2 = 0) (H : post (-1)) : wpX_bestWaitingAfter post (3, le, fs, ff, tk, a1, a2, a3, a4, a5, a6, a7, a8, a9, a10, a11, a12, a13, a14, a15) 0 := by
  have h6' : ¬ 0 ≤ a6 0 := by
    rw [h6]
    decide
  refine ⟨4, br_f (by decide) ⟨pk_in 0 8 (by decide), br_f h0 ⟨pk_in 0 8 (by decide), br_f h6' (br_f (by decide) ?_)⟩⟩⟩
  refine ⟨pk_in 0 8 (by decide), pk_in 0 8 (by decide), br_f Int32.lt_irrefl ⟨pk_in 0 8 (by decide), pk_in 0 8 (by decide), br_t rfl (br_t (by decide) (br_t rfl ?_))⟩⟩
  unfold wX_bestWaitingAfter_48
  refine br_t rfl (nm_r (e' := 1) (by decide) ?_)
  refine br_f (by decide) ⟨pk_in 1 8 (by decide), br_t h1 (nm_r (e' := 2) (by decide) ?_)⟩
  refine br_f (by decide) ⟨pk_in 2 8 (by decide), br_t h2 (nm_r (e' := 3) (by decide) ?_)⟩
  exact br_t (by decide) H
theorem sm_fA {post : St2 → Prop} {le fs ff tk : Int32} {a1 a2 a3 a4 a5 a6 a7 a8 a9 a10 a11 a12 a13 a14 a15 : Nat → Int32} (h0 : a1 0 = 0 ∨ 0 ≤ a6 0) (h1 : a1 1 = 0) (h2 : a1 2 = 0) (H : post (3, le, fs, ff, tk, a1, a2, a3, a4, a5, a6, a7, a8, a9, a10, a11, a12, a13, a14, a15)) : wpX_fillFromBest post (3, le, fs, ff, tk, a1, a2, a3, a4, a5, a6, a7, a8, a9, a10, a11, a12, a13, a14, a15) :=
  ⟨2, br_f (by decide) (br_t rfl (sm_bA h0 h1 h2 (br_f (by decide) (nm_r (e' := 1) (by decide) (br_f (by decide) (br_f (by decide) H))))))⟩
theorem sm_fB {post : St2 → Prop} {f t : Nat} {le fs ff tk : Int32} {a1 a2 a3 a4 a5 a6 a7 a8 a9 a10 a11 a12 a13 a14 a15 : Nat → Int32} (hf : f ≤ t) (ht : t ≤ 11) (h10 : ¬ a1 0 = 0) (h11 : a1 1 = 0) (h12 : a1 2 = 0) (h2 : a2 0 = nI f) (h3 : a3 0 = nI t) (h60 : a6 0 = -1) (h61 : a6 1 = -1) (h62 : a6 2 = -1)
    (H0 : ∀ le fs ff a8 a9 a10, (∀ s, f ≤ s → s ≤ t → a5 s ≤ a7 s) → post (3, le, fs, ff, tk, a1, a2, a3, a4, a5, a6, a7, a8, a9, a10, a11, a12, a13, a14, a15))
    (H1 : ∀ le fs ff a8 a9 a10 q, f ≤ q → q ≤ t → ¬ a5 q ≤ a7 q → (∀ s, f ≤ s → s < q → a5 s ≤ a7 s) → post (3, le, fs, ff, tk, a1, a2, a3, a4, a5, upd a6 0 (nI q), upd a7 q ((a7 q + 1).toInt8.toInt32), a8, a9, a10, a11, a12, a13, a14, a15)) :
    wpX_fillFromBest post (3, le, fs, ff, tk, a1, a2, a3, a4, a5, a6, a7, a8, a9, a10, a11, a12, a13, a14, a15) := by
  refine ⟨3, br_f (by decide) (br_t rfl (sm_bB h10 h60 h11 h12 (br_t (by decide) ?_)))⟩
  refine sm_pl hf ht h2 h3 h60 h61 h62 (fun le fs ff a8 a9 a10 _ _ _ hh => ?_) (fun le fs ff a8 a9 a10 q g1 g2 g3 g4 => ?_)
  · exact nm_r (e' := 1) (by decide) (br_f (by decide) (br_t rfl (sm_bC h10 h60 h11 h12 (br_f (by decide) (nm_r (e' := 2) (by decide) (br_f (by decide) (br_f (by decide) (H0 _ _ _ _ _ _ hh))))))))
  · exact nm_r (e' := 1) (by decide) (br_f (by decide) (br_f (by decide) (H1 _ _ _ _ _ _ q g1 g2 g3 g4)))
end
section
/-! ===== widen, narrow, setRoom ===== -/
theorem sm_r_up {m k c d : Nat} {a5 : Nat → Int32} {x : Int32} (h : ∀ j, j < 12 → a5 j = nI (sm_r m k c j)) (hx : x = nI d) : ∀ j, j < 12 → upd a5 k x j = nI (sm_r m k d j) := by
  intro j hj
  by_cases e : j = k
  · subst e
    rw [pk_us, sm_r_k, hx]
  · rw [pk_un e, sm_r_n e, h j hj, sm_r_n e]
/-- a job that sits nowhere: what a search says of the rooms -/
theorem sm_F0 {f t q : Nat} {r : Nat → Nat} {a5 a6 a7 : Nat → Int32} (hQ : sm_Q q a6 a7) (hq : ¬ q < 12) (ht : t ≤ 11) (h5 : ∀ j, j < 12 → a5 j = nI (r j)) (hr : ∀ j, r j ≤ 3)
    (hh : ∀ s, f ≤ s → s ≤ t → a5 s ≤ a7 s) : sm_F f t r 12 :=
  ⟨fun z => absurd z (by omega), fun j h1 h2 _ => (sm_full hQ hq h5 hr (by omega)).mp (hh j h1 h2)⟩
theorem sm_F1 {f t q p : Nat} {r : Nat → Nat} {a5 a6 a7 : Nat → Int32} (hQ : sm_Q q a6 a7) (hq : ¬ q < 12) (ht : t ≤ 11) (h5 : ∀ j, j < 12 → a5 j = nI (r j)) (hr : ∀ j, r j ≤ 3)
    (g1 : f ≤ p) (g2 : p ≤ t) (g3 : ¬ a5 p ≤ a7 p) (g4 : ∀ s, f ≤ s → s < p → a5 s ≤ a7 s) : sm_F f t r p :=
  ⟨fun _ => ⟨g1, g2, Nat.pos_of_ne_zero (fun z => g3 ((sm_full hQ hq h5 hr (by omega)).mpr z))⟩, fun j h1 h2 h3 => (sm_full hQ hq h5 hr (by omega)).mp (g4 j h1 h3)⟩
theorem sm_wi {post : St2 → Prop} {U m k c f t w q : Nat} {le fs ff tk : Int32} {a1 a2 a3 a4 a5 a6 a7 a8 a9 a10 a11 a12 a13 a14 a15 : Nat → Int32} (hk : k < 12) (hmc : m ≤ c) (hc : c < 3) (hO : sm_O U m k c f t w q) (hK : sm_K U m k c f t w q a1 a2 a3 a4 a5 a6 a7)
    (H : ∀ q le fs ff a5 a6 a7 a8 a9 a10, sm_O U m k (c + 1) f t w q → sm_K U m k (c + 1) f t w q a1 a2 a3 a4 a5 a6 a7 → post (3, le, fs, ff, tk, a1, a2, a3, a4, a5, a6, a7, a8, a9, a10, a11, a12, a13, a14, a15)) : wpX_widen post (3, le, fs, ff, tk, a1, a2, a3, a4, a5, a6, a7, a8, a9, a10, a11, a12, a13, a14, a15) (nI k) := by
  obtain ⟨hm, _, hw, hf, ht, ho⟩ := hO
  obtain ⟨k10, k11, k12, k2, k3, k4, k5, kQ⟩ := hK
  refine ⟨pk_in k 12 hk, pk_in k 12 hk, nm_r (e' := upd a5 k (nI (c + 1))) ?_ ?_⟩
  · rw [nI_clamp (by omega), k5 k hk, sm_r_k, sm_inc c (by omega)]
  have k5' := sm_r_up (d := c + 1) k5 rfl
  have hr : ∀ j, sm_r m k (c + 1) j ≤ 3 := sm_r_le hm (by omega)
  rcases ho with ⟨hU, hq⟩ | ⟨hU, hF⟩
  · refine sm_fA (Or.inl (by rw [k10, hU]; rfl)) k11 k12 ?_
    exact H q _ _ _ _ _ _ _ _ _ ⟨hm, by omega, hw, hf, ht, Or.inl ⟨hU, hq⟩⟩ ⟨k10, k11, k12, k2, k3, k4, k5', kQ⟩
  · by_cases hq : q < 12
    · refine sm_fA (Or.inr (by rw [kQ.2.2.1 hq]; exact nI_pos' (by omega))) k11 k12 ?_
      refine H q _ _ _ _ _ _ _ _ _ ⟨hm, by omega, hw, hf, ht, Or.inr ⟨hU, fun _ => ?_, fun j h1 h2 h3 => ?_⟩⟩ ⟨k10, k11, k12, k2, k3, k4, k5', kQ⟩
      · obtain ⟨b1, b2, b3⟩ := hF.1 hq
        refine ⟨b1, b2, ?_⟩
        by_cases e : q = k
        · rw [e, sm_r_k]; omega
        · rw [sm_r_n e] at b3 ⊢; exact b3
      · have z := hF.2 j h1 h2 h3
        obtain ⟨b1, b2, b3⟩ := hF.1 hq
        by_cases e : j = k
        · rw [e, sm_r_k] at z
          have e2 : q ≠ k := by omega
          rw [sm_r_n e2] at b3
          omega
        · rw [sm_r_n e] at z ⊢
          exact z
    · refine sm_fB hf ht (by rw [k10, hU]; decide) k11 k12 k2 k3 (kQ.2.2.2.1 hq) kQ.1 kQ.2.1 (fun le fs ff a8 a9 a10 hh => ?_) (fun le fs ff a8 a9 a10 p g1 g2 g3 g4 => ?_)
      · exact H 12 _ _ _ _ _ _ _ _ _ ⟨hm, by omega, hw, hf, ht, Or.inr ⟨hU, sm_F0 kQ hq ht k5' hr hh⟩⟩ ⟨k10, k11, k12, k2, k3, k4, k5', sm_Q0 kQ hq (by omega)⟩
      · exact H p _ _ _ _ _ _ _ _ _ ⟨hm, by omega, hw, hf, ht, Or.inr ⟨hU, sm_F1 kQ hq ht k5' hr g1 g2 g3 g4⟩⟩ ⟨k10, k11, k12, k2, k3, k4, k5', sm_Qsit kQ hq (by omega)⟩
theorem sm_an {post : Int32 → Prop} {x : Int32} {le fs ff tk : Int32} {a1 a2 a3 a4 a5 a6 a7 a8 a9 a10 a11 a12 a13 a14 a15 : Nat → Int32} (h6 : a6 0 = x) (H : post 0) : wpX_anyIn post (3, le, fs, ff, tk, a1, a2, a3, a4, a5, a6, a7, a8, a9, a10, a11, a12, a13, a14, a15) x :=
  ⟨1, br_f (by decide) ⟨pk_in 0 8 (by decide), br_t h6 H⟩⟩
theorem sm_na {post : St2 → Prop} {U m k c f t w q : Nat} {le fs ff tk : Int32} {a1 a2 a3 a4 a5 a6 a7 a8 a9 a10 a11 a12 a13 a14 a15 : Nat → Int32} (hk : k < 12) (hcm : c < m) (hO : sm_O U m k (c + 1) f t w q) (hK : sm_K U m k (c + 1) f t w q a1 a2 a3 a4 a5 a6 a7)
    (H : ∀ q le fs ff a5 a6 a7 a8 a9 a10, sm_O U m k c f t w q → sm_K U m k c f t w q a1 a2 a3 a4 a5 a6 a7 → post (3, le, fs, ff, tk, a1, a2, a3, a4, a5, a6, a7, a8, a9, a10, a11, a12, a13, a14, a15)) : wpX_narrow post (3, le, fs, ff, tk, a1, a2, a3, a4, a5, a6, a7, a8, a9, a10, a11, a12, a13, a14, a15) (nI k) := by
  obtain ⟨hm, hc, hw, hf, ht, ho⟩ := hO
  obtain ⟨k10, k11, k12, k2, k3, k4, k5, kQ⟩ := hK
  have k5' := sm_r_up (d := c) k5 rfl
  have hr : ∀ j, sm_r m k c j ≤ 3 := sm_r_le hm (by omega)
  refine ⟨pk_in k 12 hk, pk_in k 12 hk, nm_r (e' := upd a5 k (nI c)) ?_ ⟨pk_in k 12 hk, pk_in k 12 hk, ?_⟩⟩
  · rw [nI_clamp (by omega), k5 k hk, sm_r_k, sm_dec c (by omega)]
  have e1 : upd a5 k (nI c) (nI k).toNatClampNeg = nI c := by rw [nI_clamp (by omega), pk_us]
  have e2 : a7 (nI k).toNatClampNeg = nI (if k = q then 1 else 0) := by rw [nI_clamp (by omega), kQ.2.2.2.2 k hk]
  refine pk_lt c (if k = q then 1 else 0) (fun z => ?_) (fun z => ?_) e1 e2 (by omega) (by split <;> omega)
  · have hkq : k = q := by
      by_cases e : k = q
      · exact e
      · rw [if_neg e] at z
        omega
    have hc0 : c = 0 := by
      rw [if_pos hkq] at z
      omega
    have hq : q < 12 := by omega
    rcases ho with ⟨hU, hq'⟩ | ⟨hU, hF⟩
    · exact absurd hq hq'
    have kQ' := sm_Qvac (p := 12) kQ hq (by omega)
    refine sm_an (by rw [hkq]; exact kQ.2.2.1 hq) (sm_v1 hq (kQ.2.2.1 hq) ?_)
    refine sm_co hf ht k2 k3 pk_us kQ'.1 kQ'.2.1 (fun le fs ff a8 a9 a10 hh => ?_) (fun le fs ff a8 a9 a10 p g1 g2 g3 g4 => ?_)
    · exact H 12 _ _ _ _ _ _ _ _ _ ⟨hm, by omega, hw, hf, ht, Or.inr ⟨hU, sm_F0 kQ' (by omega) ht k5' hr hh⟩⟩ ⟨k10, k11, k12, k2, k3, k4, k5', kQ'⟩
    · exact H p _ _ _ _ _ _ _ _ _ ⟨hm, by omega, hw, hf, ht, Or.inr ⟨hU, sm_F1 kQ' (by omega) ht k5' hr g1 g2 g3 g4⟩⟩ ⟨k10, k11, k12, k2, k3, k4, k5', sm_Qsit kQ' (by omega) (by omega)⟩
  · refine H q _ _ _ _ _ _ _ _ _ ⟨hm, by omega, hw, hf, ht, ?_⟩ ⟨k10, k11, k12, k2, k3, k4, k5', kQ⟩
    rcases ho with ho | ⟨hU, hF⟩
    · exact Or.inl ho
    refine Or.inr ⟨hU, ?_⟩
    have hp : ∀ j, 0 < sm_r m k (c + 1) j := fun j => by
      unfold sm_r
      split <;> omega
    have e : q = f := sm_Fu hF (Nat.le_refl f) hf (by omega) (hp f) (fun j h1 h2 => absurd h1 (by omega))
    refine ⟨fun _ => ⟨by omega, by omega, ?_⟩, fun j h1 h2 h3 => absurd h3 (by omega)⟩
    by_cases e' : k = q
    · rw [if_pos e'] at z
      rw [← e', sm_r_k]
      omega
    · rw [sm_r_n (fun x => e' x.symm)]
      omega
theorem sm_56 {post : Int32 → St2 → Prop} {U m k n f t w : Nat} (hk : k < 12) (hn : n ≤ 3) (H : ∀ q le fs ff a1 a2 a3 a4 a5 a6 a7 a8 a9 a10 a11 a12 a13 a14 a15, sm_O U m k n f t w q → sm_K U m k n f t w q a1 a2 a3 a4 a5 a6 a7 → post 1 (3, le, fs, ff, 0, a1, a2, a3, a4, a5, a6, a7, a8, a9, a10, a11, a12, a13, a14, a15)) :
    ∀ d i c q le fs ff a1 a2 a3 a4 a5 a6 a7 a8 a9 a10 a11 a12 a13 a14 a15, i + d = 3 → n ≤ c → c ≤ n + d → (c = n ∨ c ≤ m) → sm_O U m k c f t w q → sm_K U m k c f t w q a1 a2 a3 a4 a5 a6 a7 → wX_setRoom_56 post (nI k) (nI n) (d + 1) (nI i) 3 le fs ff 0 a1 a2 a3 a4 a5 a6 a7 a8 a9 a10 a11 a12 a13 a14 a15 := by
  intro d
  induction d with
  | zero =>
    intro i c q le fs ff a1 a2 a3 a4 a5 a6 a7 a8 a9 a10 a11 a12 a13 a14 a15 hi h1 h2 h3 hO hK
    have e : c = n := by omega
    subst e
    exact pk_le 3 i (fun _ => H q le fs ff _ _ _ _ _ _ _ _ _ _ _ _ _ _ _ hO hK) (fun z => absurd z (by omega))
  | succ d ih =>
    intro i c q le fs ff a1 a2 a3 a4 a5 a6 a7 a8 a9 a10 a11 a12 a13 a14 a15 hi h1 h2 h3 hO hK
    have e1 : a5 (nI k).toNatClampNeg = nI c := by rw [nI_clamp (by omega), hK.2.2.2.2.2.2.1 k hk, sm_r_k]
    have hc3 := hO.2.1
    refine pk_le 3 i (fun z => absurd z (by omega)) (fun _ => ⟨pk_in k 12 hk, pk_le c n (fun z => ?_) (fun z => ?_) e1⟩)
    · have e : c = n := by omega
      subst e
      exact H q le fs ff _ _ _ _ _ _ _ _ _ _ _ _ _ _ _ hO hK
    · obtain ⟨c', rfl⟩ : ∃ c', c = c' + 1 := ⟨c - 1, by omega⟩
      refine sm_na hk (by omega) hO hK (fun q le fs ff a5 a6 a7 a8 a9 a10 hO' hK' => nm_r (nI_1 i) ?_)
      exact ih (i + 1) c' q le fs ff _ _ _ _ _ _ _ _ _ _ _ _ _ _ _ (by omega) (by omega) (by omega) (by omega) hO' hK'
theorem sm_28 {post : Int32 → St2 → Prop} {U m k n f t w : Nat} (hk : k < 12) (hn : n ≤ 3) (H : ∀ q le fs ff a1 a2 a3 a4 a5 a6 a7 a8 a9 a10 a11 a12 a13 a14 a15, sm_O U m k n f t w q → sm_K U m k n f t w q a1 a2 a3 a4 a5 a6 a7 → post 1 (3, le, fs, ff, 0, a1, a2, a3, a4, a5, a6, a7, a8, a9, a10, a11, a12, a13, a14, a15)) :
    ∀ d i c q le fs ff a1 a2 a3 a4 a5 a6 a7 a8 a9 a10 a11 a12 a13 a14 a15, i + d = 3 → c = m + i → (c = m ∨ c ≤ n) → sm_O U m k c f t w q → sm_K U m k c f t w q a1 a2 a3 a4 a5 a6 a7 → wX_setRoom_28 post (nI k) (nI n) (d + 1) (nI i) 3 le fs ff 0 a1 a2 a3 a4 a5 a6 a7 a8 a9 a10 a11 a12 a13 a14 a15 := by
  intro d
  induction d with
  | zero =>
    intro i c q le fs ff a1 a2 a3 a4 a5 a6 a7 a8 a9 a10 a11 a12 a13 a14 a15 hi h1 h2 hO hK
    have hc3 := hO.2.1
    refine pk_le 3 i (fun _ => sm_ex 4 ?_) (fun z => absurd z (by omega))
    exact sm_56 hk hn H 3 0 c q le fs ff _ _ _ _ _ _ _ _ _ _ _ _ _ _ _ (by omega) (by omega) (by omega) (by omega) hO hK
  | succ d ih =>
    intro i c q le fs ff a1 a2 a3 a4 a5 a6 a7 a8 a9 a10 a11 a12 a13 a14 a15 hi h1 h2 hO hK
    have e1 : a5 (nI k).toNatClampNeg = nI c := by rw [nI_clamp (by omega), hK.2.2.2.2.2.2.1 k hk, sm_r_k]
    have hc3 := hO.2.1
    refine pk_le 3 i (fun z => absurd z (by omega)) (fun _ => ⟨pk_in k 12 hk, pk_le n c (fun z => sm_ex 4 ?_) (fun z => ?_) rfl e1⟩)
    · exact sm_56 hk hn H 3 0 c q le fs ff _ _ _ _ _ _ _ _ _ _ _ _ _ _ _ (by omega) (by omega) (by omega) (by omega) hO hK
    · refine sm_wi hk (by omega) (by omega) hO hK (fun q le fs ff a5 a6 a7 a8 a9 a10 hO' hK' => nm_r (nI_1 i) ?_)
      exact ih (i + 1) (c + 1) q le fs ff _ _ _ _ _ _ _ _ _ _ _ _ _ _ _ (by omega) (by omega) (by omega) hO' hK'
/-- the answer of setRoom, and the rooms behind it -/
def sm_V (p4 p5 v : Int32) (m k c : Nat) : Prop :=
  (v = 1 ∧ k ≤ 11 ∧ c ≤ 3 ∧ p4 = nI k ∧ p5 = nI c) ∨ (v = 0 ∧ c = m ∧ (p4 < 0 ∨ 11 < p4 ∨ p5 < 0 ∨ 3 < p5))
theorem sm_Kany {U m k k' f t w q : Nat} {a1 a2 a3 a4 a5 a6 a7 : Nat → Int32} (h : sm_K U m k m f t w q a1 a2 a3 a4 a5 a6 a7) : sm_K U m k' m f t w q a1 a2 a3 a4 a5 a6 a7 := by
  obtain ⟨k10, k11, k12, k2, k3, k4, k5, kQ⟩ := h
  refine ⟨k10, k11, k12, k2, k3, k4, fun j hj => ?_, kQ⟩
  rw [k5 j hj, sm_r_m, sm_r_m]
theorem sm_Oany {U m k k' f t w q : Nat} (h : sm_O U m k m f t w q) : sm_O U m k' m f t w q := by
  have e : sm_r m k m = sm_r m k' m := by
    funext j
    rw [sm_r_m, sm_r_m]
  unfold sm_O at h ⊢
  rw [e] at h
  exact h
theorem sm_sr {post : Int32 → St2 → Prop} {U m f t w q : Nat} {p4 p5 : Int32} {le fs ff : Int32} {a1 a2 a3 a4 a5 a6 a7 a8 a9 a10 a11 a12 a13 a14 a15 : Nat → Int32} (hO : sm_O U m 0 m f t w q) (hK : sm_K U m 0 m f t w q a1 a2 a3 a4 a5 a6 a7)
    (H : ∀ v k c q le fs ff a1 a2 a3 a4 a5 a6 a7 a8 a9 a10 a11 a12 a13 a14 a15, sm_V p4 p5 v m k c → sm_O U m k c f t w q → sm_K U m k c f t w q a1 a2 a3 a4 a5 a6 a7 → post v (3, le, fs, ff, 0, a1, a2, a3, a4, a5, a6, a7, a8, a9, a10, a11, a12, a13, a14, a15)) : wpX_setRoom post (3, le, fs, ff, 0, a1, a2, a3, a4, a5, a6, a7, a8, a9, a10, a11, a12, a13, a14, a15) p4 p5 := by
  have H0 : (p4 < 0 ∨ 11 < p4 ∨ p5 < 0 ∨ 3 < p5) → post 0 (3, le, fs, ff, 0, a1, a2, a3, a4, a5, a6, a7, a8, a9, a10, a11, a12, a13, a14, a15) := fun z => H 0 0 m q le fs ff _ _ _ _ _ _ _ _ _ _ _ _ _ _ _ (Or.inr ⟨rfl, rfl, z⟩) hO hK
  refine br_c (fun z => H0 (Or.inl z)) (fun z1 => br_c (fun z => H0 (Or.inr (Or.inl z))) (fun z2 => br_c (fun z => H0 (Or.inr (Or.inr (Or.inl z)))) (fun z3 => br_c (fun z4 => ?_) (fun z => H0 (Or.inr (Or.inr (Or.inr (Int32.not_le.mp z))))))))
  obtain ⟨k, hk, rfl⟩ := nI_of2 (M := 11) (n := 11) (by decide) z1 (Int32.not_lt.mp z2)
  obtain ⟨c, hc, rfl⟩ := nI_of2 (M := 3) (n := 3) (by decide) z3 z4
  refine sm_ex 4 (sm_28 (by omega) hc (fun q le fs ff a1 a2 a3 a4 a5 a6 a7 a8 a9 a10 a11 a12 a13 a14 a15 hO' hK' => ?_) 3 0 m q le fs ff _ _ _ _ _ _ _ _ _ _ _ _ _ _ _ (by omega) (by omega) (Or.inl rfl) (sm_Oany hO) (sm_Kany hK))
  exact H 1 k c q le fs ff _ _ _ _ _ _ _ _ _ _ _ _ _ _ _ (Or.inl ⟨rfl, hk, hc, rfl, rfl⟩) hO' hK'
end
section
/-! ===== the constructor, bring ===== -/
theorem sm_fill {f s : Nat → Int32} {i : Nat} {x : Int32} (h : ∀ j, j < i → s j = f j) (hx : x = f i) : ∀ j, j < i + 1 → upd s i x j = f j := by
  intro j hj
  by_cases e : j = i
  · rw [e, pk_us, hx]
  · rw [pk_un e]
    exact h j (by omega)
theorem sm_i196 {post : St2 → Prop} {mc ms kc ks : Nat} {le fs ff tk : Int32} {a1 a2 a3 a4 a5 a6 a7 a8 a9 a10 a11 a12 a13 a14 a15 : Nat → Int32} (H : ∀ a6, (∀ j, j < 8 → a6 j = -1) → post (3, le, fs, ff, tk, a1, a2, a3, a4, a5, a6, a7, a8, a9, a10, a11, a12, a13, a14, a15)) : ∃ n, wX_init_196 post mc ms kc ks 3 le fs ff tk n 0 a1 a2 a3 a4 a5 a6 a7 a8 a9 a10 a11 a12 a13 a14 a15 := by
  refine pk_loop (fun n i s => wX_init_196 post mc ms kc ks 3 le fs ff tk n (nI i) a1 a2 a3 a4 a5 s a7 a8 a9 a10 a11 a12 a13 a14 a15) (fun i s => ∀ j, j < i → s j = -1) 8 0 a6 (by omega) (fun j hj => absurd hj (by omega)) ?_ ?_
  · intro n s hs
    exact pk_le 8 8 (fun _ => H s hs) (fun z => absurd z (by omega))
  · intro n i s hi hs hw
    exact pk_le 8 i (fun z => absurd z (by omega)) (fun _ => ⟨pk_in i 8 hi, nm_r (e' := upd s i (-1)) (by rw [nI_clamp (by omega)]) (nm_r (nI_1 i) (hw _ (sm_fill (f := fun _ => -1) hs rfl)))⟩)
theorem sm_i171 {post : St2 → Prop} {mc ms kc ks : Nat} {x : Int32} {m : Nat} {le fs ff tk : Int32} {a1 a2 a3 a4 a5 a6 a7 a8 a9 a10 a11 a12 a13 a14 a15 : Nat → Int32} (hx : x = nI m) (hm : m ≤ 3) (H : ∀ a5 a6, (∀ j, j < 12 → a5 j = nI m) → (∀ j, j < 8 → a6 j = -1) → post (3, le, fs, ff, tk, a1, a2, a3, a4, a5, a6, a7, a8, a9, a10, a11, a12, a13, a14, a15)) : ∃ n, wX_init_171 post mc ms x kc ks 3 le fs ff tk n 0 a1 a2 a3 a4 a5 a6 a7 a8 a9 a10 a11 a12 a13 a14 a15 := by
  refine pk_loop (fun n i s => wX_init_171 post mc ms x kc ks 3 le fs ff tk n (nI i) a1 a2 a3 a4 s a6 a7 a8 a9 a10 a11 a12 a13 a14 a15) (fun i s => ∀ j, j < i → s j = nI m) 12 0 a5 (by omega) (fun j hj => absurd hj (by omega)) ?_ ?_
  · intro n s hs
    exact pk_le 12 12 (fun _ => sm_i196 (fun a6 h6 => H s a6 hs h6)) (fun z => absurd z (by omega))
  · intro n i s hi hs hw
    exact pk_le 12 i (fun z => absurd z (by omega)) (fun _ => ⟨pk_in i 12 hi, nm_r (e' := upd s i (nI m)) (by rw [nI_clamp (by omega), hx, sm_b m (by omega)]) (nm_r (nI_1 i) (hw _ (sm_fill (f := fun _ => nI m) hs rfl)))⟩)
theorem sm_in {post : St2 → Prop} {p : Int32} (H : ∀ m a5 a6, m ≤ 3 → (0 < m ↔ ¬ p ≤ 0) → (∀ j, j < 12 → a5 j = nI m) → (∀ j, j < 8 → a6 j = -1) →
    post (3, 0, 0, 0, 0, fun _ => 0, fun _ => 0, fun _ => 0, fun _ => 0, a5, a6, fun _ => 0, fun _ => 0, fun _ => 0, fun _ => 0, fun _ => 0, fun _ => 0, fun _ => 0, fun _ => 0, fun _ => 0)) :
    wpX_init post 15 132 (0, 0, 0, 0, 0) 3 p := by
  have W : wX_init_146 post 15 132 p 3 15 132 0 0 0 0 0 (fun _ => 0) (fun _ => 0) (fun _ => 0) (fun _ => 0) (fun _ => 0) (fun _ => 0) (fun _ => 0) (fun _ => 0) (fun _ => 0) (fun _ => 0) (fun _ => 0) (fun _ => 0) (fun _ => 0) (fun _ => 0) (fun _ => 0) := by
    refine br_c (fun z1 => br_c (fun z2 => ?_) (fun z2 => ?_)) (fun z1 => ?_)
    · obtain ⟨m, hm, rfl⟩ := nI_of2 (M := 3) (n := 3) (by decide) (Int32.not_lt.mpr z1) z2
      refine sm_i171 rfl hm (fun a5 a6 h5 h6 => H m a5 a6 hm ?_ h5 h6)
      constructor
      · intro h; exact nI_nle h (by omega)
      · intro h
        rcases Nat.eq_zero_or_pos m with e | e
        · subst e
          exact absurd (by decide) h
        · exact e
    · refine sm_i171 (m := 3) rfl (by omega) (fun a5 a6 h5 h6 => H 3 a5 a6 (by omega) ?_ h5 h6)
      refine ⟨fun _ g => z2 ?_, fun _ => by omega⟩
      exact Int32.le_trans g (by decide)
    · refine sm_i171 (m := 0) rfl (by omega) (fun a5 a6 h5 h6 => H 0 a5 a6 (by omega) ?_ h5 h6)
      refine ⟨fun g => absurd g (by omega), fun g => absurd (Int32.le_of_lt (Int32.not_le.mp z1)) g⟩
  unfold wpX_init
  refine ⟨by omega, by omega, by omega, by omega, by omega, by omega, by omega, by omega, by omega, by omega, by omega, by omega, by omega, by omega, by omega, by omega, by omega, by omega, by omega, by omega, by omega, by omega, by omega, by omega, by omega, by omega, by omega, by omega, by omega, by omega, ?_⟩
  exact br_t (by decide) (br_t (by decide) W)
/-- the answer of bring: a job or none -/
def sm_G (p1 p2 p3 v : Int32) (U f t w : Nat) : Prop :=
  (v = 0 ∧ U = 1 ∧ 1 ≤ w ∧ p1 = nI f ∧ p2 = nI t ∧ p3 = nI w) ∨ (v = -1 ∧ U = 0 ∧ (p1 < 0 ∨ p2 < p1 ∨ 11 < p2 ∨ p3 < 1 ∨ 20 < p3))
theorem sm_br {post : Int32 → St2 → Prop} {p1 p2 p3 : Int32} {m : Nat} {a5 a6 : Nat → Int32} (hm : m ≤ 3) (h5 : ∀ j, j < 12 → a5 j = nI m) (h6 : ∀ j, j < 8 → a6 j = -1)
    (H : ∀ v U f t w q le fs ff a1 a2 a3 a4 a5 a6 a7 a8 a9 a10 a11 a12 a13 a14 a15, sm_G p1 p2 p3 v U f t w → sm_O U m 0 m f t w q → sm_K U m 0 m f t w q a1 a2 a3 a4 a5 a6 a7 → post v (3, le, fs, ff, 0, a1, a2, a3, a4, a5, a6, a7, a8, a9, a10, a11, a12, a13, a14, a15)) :
    wpX_bring post (3, 0, 0, 0, 0, fun _ => 0, fun _ => 0, fun _ => 0, fun _ => 0, a5, a6, fun _ => 0, fun _ => 0, fun _ => 0, fun _ => 0, fun _ => 0, fun _ => 0, fun _ => 0, fun _ => 0, fun _ => 0) p1 p2 p3 := by
  have h5' : ∀ j, j < 12 → a5 j = nI (sm_r m 0 m j) := fun j hj => by rw [h5 j hj, sm_r_m]
  have hQ : sm_Q 12 a6 (fun _ => 0) := ⟨h6 1 (by omega), h6 2 (by omega), fun z => absurd z (by omega), fun _ => h6 0 (by omega), fun j hj => by rw [if_neg (by omega)]; rfl⟩
  have H0 : (p1 < 0 ∨ p2 < p1 ∨ 11 < p2 ∨ p3 < 1 ∨ 20 < p3) → post (-1) (3, 0, 0, 0, 0, fun _ => 0, fun _ => 0, fun _ => 0, fun _ => 0, a5, a6, fun _ => 0, fun _ => 0, fun _ => 0, fun _ => 0, fun _ => 0, fun _ => 0, fun _ => 0, fun _ => 0, fun _ => 0) := fun z =>
    H (-1) 0 0 0 0 12 0 0 0 _ _ _ _ _ _ _ _ _ _ _ _ _ _ _ (Or.inr ⟨rfl, rfl, z⟩) ⟨hm, hm, by omega, by omega, by omega, Or.inl ⟨rfl, by omega⟩⟩ ⟨rfl, rfl, rfl, rfl, rfl, rfl, h5', hQ⟩
  refine br_c (fun z => H0 (Or.inl z)) (fun z1 => br_c (fun z => H0 (Or.inr (Or.inl z))) (fun z2 => br_c (fun z => H0 (Or.inr (Or.inr (Or.inl z)))) (fun z3 => br_c (fun z => H0 (Or.inr (Or.inr (Or.inr (Or.inl z))))) (fun z4 => br_c (fun z5 => ?_) (fun z => H0 (Or.inr (Or.inr (Or.inr (Or.inr (Int32.not_le.mp z))))))))))
  have z2' : p1 ≤ p2 := Int32.not_lt.mp z2
  have z3' : p2 ≤ 11 := Int32.not_lt.mp z3
  obtain ⟨f, hf, rfl⟩ := nI_of2 (M := 11) (n := 11) (by decide) z1 (Int32.le_trans z2' z3')
  have z6 : ¬ p2 < 0 := fun z => nI_pos (show f < 2 ^ 31 by omega) (Int32.lt_of_le_of_lt z2' z)
  obtain ⟨t, ht, rfl⟩ := nI_of2 (M := 11) (n := 11) (by decide) z6 z3'
  have z7 : ¬ p3 < 0 := fun z => z4 (Int32.lt_of_lt_of_le z (by decide))
  obtain ⟨w, hw, rfl⟩ := nI_of2 (M := 20) (n := 20) (by decide) z7 z5
  have hft : f ≤ t := (nI_leI (by omega) (by omega)).mp z2'
  have hw1 : 1 ≤ w := by
    rcases Nat.eq_zero_or_pos w with e | e
    · subst e
      exact absurd (by decide) z4
    · exact e
  have hr : ∀ j, sm_r m 0 m j ≤ 3 := sm_r_le hm hm
  have hQ' : sm_Q 12 (upd a6 0 (-1)) (fun _ => 0) := ⟨by rw [pk_un (by omega)]; exact hQ.1, by rw [pk_un (by omega)]; exact hQ.2.1, fun z => absurd z (by omega), fun _ => pk_us, hQ.2.2.2.2⟩
  refine ⟨1, br_f (by decide) ⟨pk_in 0 8 (by decide), br_t rfl ⟨pk_in 0 8 (by decide), nm_r (e' := upd (fun _ => 0) 0 1) rfl ⟨pk_in 0 8 (by decide), nm_r (e' := upd (fun _ => 0) 0 (nI f)) (by rw [sm_b f (by omega)]; rfl) ⟨pk_in 0 8 (by decide), nm_r (e' := upd (fun _ => 0) 0 (nI t)) (by rw [sm_b t (by omega)]; rfl) ⟨pk_in 0 8 (by decide), nm_r (e' := upd (fun _ => 0) 0 (nI w)) (by rw [sm_b w (by omega)]; rfl) ⟨pk_in 0 8 (by decide), nm_r (e' := upd a6 0 (-1)) rfl ?_⟩⟩⟩⟩⟩⟩⟩
  refine sm_co hft ht pk_us pk_us pk_us hQ'.1 hQ'.2.1 (fun le fs ff a8 a9 a10 hh => ?_) (fun le fs ff a8 a9 a10 q g1 g2 g3 g4 => ?_)
  · exact H 0 1 f t w 12 le fs ff _ _ _ _ _ _ _ _ _ _ _ _ _ _ _ (Or.inl ⟨rfl, rfl, hw1, rfl, rfl, rfl⟩) ⟨hm, hm, hw, hft, ht, Or.inr ⟨rfl, sm_F0 hQ' (by omega) ht h5' hr hh⟩⟩ ⟨rfl, rfl, rfl, pk_us, pk_us, pk_us, h5', hQ'⟩
  · exact H 0 1 f t w q le fs ff _ _ _ _ _ _ _ _ _ _ _ _ _ _ _ (Or.inl ⟨rfl, rfl, hw1, rfl, rfl, rfl⟩) ⟨hm, hm, hw, hft, ht, Or.inr ⟨rfl, sm_F1 hQ' (by omega) ht h5' hr g1 g2 g3 g4⟩⟩ ⟨rfl, rfl, rfl, pk_us, pk_us, pk_us, h5', sm_Qsit hQ' (by omega) (by omega)⟩
end
section
/-! ===== chosen, total, save, restore, price ===== -/
theorem sm_neg {x : Int32} (h : x = -1) : x < 0 := by
  rw [h]
  decide
theorem sm_nn {x : Int32} {q : Nat} (h : x = nI q) (hq : q < 12) : ¬ x < 0 := by
  rw [h]
  exact nI_pos (by omega)
theorem sm_ch {post : Int32 → Prop} {q : Nat} {le fs ff tk : Int32} {a1 a2 a3 a4 a5 a6 a7 a8 a9 a10 a11 a12 a13 a14 a15 : Nat → Int32} (hQ : sm_Q q a6 a7) (H : post (if q < 12 then 1 else 0)) : wpX_chosen post (3, le, fs, ff, tk, a1, a2, a3, a4, a5, a6, a7, a8, a9, a10, a11, a12, a13, a14, a15) := by
  obtain ⟨h1, h2, h3, h4, h5⟩ := hQ
  have R : ∀ x, post x → wX_chosen_4 post 3 le fs ff tk a1 a2 a3 a4 a5 a6 a7 a8 a9 a10 a11 a12 a13 a14 a15 3 x 1 := by
    intro x hx
    refine br_f (by decide) ⟨pk_in 1 8 (by decide), br_t (sm_neg h1) (nm_r (e' := 2) (by decide) ?_)⟩
    refine br_f (by decide) ⟨pk_in 2 8 (by decide), br_t (sm_neg h2) (nm_r (e' := 3) (by decide) ?_)⟩
    exact br_t (by decide) hx
  refine ⟨4, br_f (by decide) ⟨pk_in 0 8 (by decide), ?_⟩⟩
  by_cases hq : q < 12
  · rw [if_pos hq] at H
    exact br_f (sm_nn (h3 hq) hq) (nm_r (e' := 1) (by decide) (nm_r (e' := 1) (by decide) (R 1 H)))
  · rw [if_neg hq] at H
    exact br_t (sm_neg (h4 hq)) (nm_r (e' := 1) (by decide) (R 0 H))
theorem sm_to {post : Int32 → Prop} {q w : Nat} {le fs ff tk : Int32} {a1 a2 a3 a4 a5 a6 a7 a8 a9 a10 a11 a12 a13 a14 a15 : Nat → Int32} (h4w : a4 0 = nI w) (hQ : sm_Q q a6 a7) (H : post (if q < 12 then nI w else 0)) : wpX_total post (3, le, fs, ff, tk, a1, a2, a3, a4, a5, a6, a7, a8, a9, a10, a11, a12, a13, a14, a15) := by
  obtain ⟨h1, h2, h3, h4, h5⟩ := hQ
  have R : ∀ x, post x → wX_total_4 post 3 le fs ff tk a1 a2 a3 a4 a5 a6 a7 a8 a9 a10 a11 a12 a13 a14 a15 3 x 1 := by
    intro x hx
    refine br_f (by decide) ⟨pk_in 1 8 (by decide), br_t (sm_neg h1) (nm_r (e' := 2) (by decide) ?_)⟩
    refine br_f (by decide) ⟨pk_in 2 8 (by decide), br_t (sm_neg h2) (nm_r (e' := 3) (by decide) ?_)⟩
    exact br_t (by decide) hx
  refine ⟨4, br_f (by decide) ⟨pk_in 0 8 (by decide), ?_⟩⟩
  by_cases hq : q < 12
  · rw [if_pos hq] at H
    exact br_f (sm_nn (h3 hq) hq) ⟨pk_in 0 8 (by decide), nm_r (e' := nI w) (by rw [Int32.zero_add]; exact h4w) (nm_r (e' := 1) (by decide) (R _ H))⟩
  · rw [if_neg hq] at H
    exact br_t (sm_neg (h4 hq)) (nm_r (e' := 1) (by decide) (R 0 H))
theorem sm_s28 {post : St2 → Prop} {le fs ff tk : Int32} {a1 a2 a3 a4 a5 a6 a7 a8 a9 a10 a11 a12 a13 a14 a15 : Nat → Int32} (H : ∀ a12, (∀ j, j < 12 → a12 j = vp_nar .byte (a7 j)) → post (3, le, fs, ff, tk, a1, a2, a3, a4, a5, a6, a7, a8, a9, a10, a11, a12, a13, a14, a15)) : ∃ n, wX_save_28 post 3 le fs ff tk n 0 a1 a2 a3 a4 a5 a6 a7 a8 a9 a10 a11 a12 a13 a14 a15 := by
  refine pk_loop (fun n i s => wX_save_28 post 3 le fs ff tk n (nI i) a1 a2 a3 a4 a5 a6 a7 a8 a9 a10 a11 s a13 a14 a15) (fun i s => ∀ j, j < i → s j = vp_nar .byte (a7 j)) 12 0 a12 (by omega) (fun j hj => absurd hj (by omega)) ?_ ?_
  · intro n s hs
    exact pk_le 12 12 (fun _ => H s hs) (fun z => absurd z (by omega))
  · intro n i s hi hs hw
    exact pk_le 12 i (fun z => absurd z (by omega)) (fun _ => ⟨pk_in i 12 hi, pk_in i 12 hi, nm_r (e' := upd s i (vp_nar .byte (a7 i))) (by rw [nI_clamp (by omega)]) (nm_r (nI_1 i) (hw _ (sm_fill (f := fun j => vp_nar .byte (a7 j)) hs rfl)))⟩)
theorem sm_sa {post : St2 → Prop} {q : Nat} {le fs ff tk : Int32} {a1 a2 a3 a4 a5 a6 a7 a8 a9 a10 a11 a12 a13 a14 a15 : Nat → Int32} (hQ : sm_Q q a6 a7) (H : ∀ a11 a12, sm_Q q a11 a12 → post (3, le, fs, ff, tk, a1, a2, a3, a4, a5, a6, a7, a8, a9, a10, a11, a12, a13, a14, a15)) : wpX_save post (3, le, fs, ff, tk, a1, a2, a3, a4, a5, a6, a7, a8, a9, a10, a11, a12, a13, a14, a15) := by
  refine pk_loop (fun n i s => wX_save_2 post 3 le fs ff tk n (nI i) a1 a2 a3 a4 a5 a6 a7 a8 a9 a10 s a12 a13 a14 a15) (fun i s => ∀ j, j < i → s j = vp_nar .byte (a6 j)) 8 0 a11 (by omega) (fun j hj => absurd hj (by omega)) ?_ ?_
  · intro n s hs
    exact pk_le 8 8 (fun _ => sm_s28 (fun a12 h => H s a12 (sm_Qcopy hQ hs h))) (fun z => absurd z (by omega))
  · intro n i s hi hs hw
    exact pk_le 8 i (fun z => absurd z (by omega)) (fun _ => ⟨pk_in i 8 hi, pk_in i 8 hi, nm_r (e' := upd s i (vp_nar .byte (a6 i))) (by rw [nI_clamp (by omega)]) (nm_r (nI_1 i) (hw _ (sm_fill (f := fun j => vp_nar .byte (a6 j)) hs rfl)))⟩)
theorem sm_r28 {post : St2 → Prop} {le fs ff tk : Int32} {a1 a2 a3 a4 a5 a6 a7 a8 a9 a10 a11 a12 a13 a14 a15 : Nat → Int32} (H : ∀ a7, (∀ j, j < 12 → a7 j = vp_nar .byte (a12 j)) → post (3, le, fs, ff, tk, a1, a2, a3, a4, a5, a6, a7, a8, a9, a10, a11, a12, a13, a14, a15)) : ∃ n, wX_restore_28 post 3 le fs ff tk n 0 a1 a2 a3 a4 a5 a6 a7 a8 a9 a10 a11 a12 a13 a14 a15 := by
  refine pk_loop (fun n i s => wX_restore_28 post 3 le fs ff tk n (nI i) a1 a2 a3 a4 a5 a6 s a8 a9 a10 a11 a12 a13 a14 a15) (fun i s => ∀ j, j < i → s j = vp_nar .byte (a12 j)) 12 0 a7 (by omega) (fun j hj => absurd hj (by omega)) ?_ ?_
  · intro n s hs
    exact pk_le 12 12 (fun _ => H s hs) (fun z => absurd z (by omega))
  · intro n i s hi hs hw
    exact pk_le 12 i (fun z => absurd z (by omega)) (fun _ => ⟨pk_in i 12 hi, pk_in i 12 hi, nm_r (e' := upd s i (vp_nar .byte (a12 i))) (by rw [nI_clamp (by omega)]) (nm_r (nI_1 i) (hw _ (sm_fill (f := fun j => vp_nar .byte (a12 j)) hs rfl)))⟩)
theorem sm_re {post : St2 → Prop} {q : Nat} {le fs ff tk : Int32} {a1 a2 a3 a4 a5 a6 a7 a8 a9 a10 a11 a12 a13 a14 a15 : Nat → Int32} (hQ : sm_Q q a11 a12) (H : ∀ a6 a7, sm_Q q a6 a7 → post (3, le, fs, ff, tk, a1, a2, a3, a4, a5, a6, a7, a8, a9, a10, a11, a12, a13, a14, a15)) : wpX_restore post (3, le, fs, ff, tk, a1, a2, a3, a4, a5, a6, a7, a8, a9, a10, a11, a12, a13, a14, a15) := by
  refine pk_loop (fun n i s => wX_restore_2 post 3 le fs ff tk n (nI i) a1 a2 a3 a4 a5 s a7 a8 a9 a10 a11 a12 a13 a14 a15) (fun i s => ∀ j, j < i → s j = vp_nar .byte (a11 j)) 8 0 a6 (by omega) (fun j hj => absurd hj (by omega)) ?_ ?_
  · intro n s hs
    exact pk_le 8 8 (fun _ => sm_r28 (fun a7 h => H s a7 (sm_Qcopy hQ hs h))) (fun z => absurd z (by omega))
  · intro n i s hi hs hw
    exact pk_le 8 i (fun z => absurd z (by omega)) (fun _ => ⟨pk_in i 8 hi, pk_in i 8 hi, nm_r (e' := upd s i (vp_nar .byte (a11 i))) (by rw [nI_clamp (by omega)]) (nm_r (nI_1 i) (hw _ (sm_fill (f := fun j => vp_nar .byte (a11 j)) hs rfl)))⟩)
theorem sm_e23 {post : St2 → Prop} {le fs ff tk : Int32} {a1 a2 a3 a4 a5 a6 a7 a8 a9 a10 a11 a12 a13 a14 a15 : Nat → Int32} (H : ∀ a7, (∀ j, j < 12 → a7 j = 0) → post (3, le, fs, ff, tk, a1, a2, a3, a4, a5, a6, a7, a8, a9, a10, a11, a12, a13, a14, a15)) : ∃ n, wX_empty_23 post 3 le fs ff tk n 0 a1 a2 a3 a4 a5 a6 a7 a8 a9 a10 a11 a12 a13 a14 a15 := by
  refine pk_loop (fun n i s => wX_empty_23 post 3 le fs ff tk n (nI i) a1 a2 a3 a4 a5 a6 s a8 a9 a10 a11 a12 a13 a14 a15) (fun i s => ∀ j, j < i → s j = 0) 12 0 a7 (by omega) (fun j hj => absurd hj (by omega)) ?_ ?_
  · intro n s hs
    exact pk_le 12 12 (fun _ => H s hs) (fun z => absurd z (by omega))
  · intro n i s hi hs hw
    exact pk_le 12 i (fun z => absurd z (by omega)) (fun _ => ⟨pk_in i 12 hi, nm_r (e' := upd s i 0) (by rw [nI_clamp (by omega)]) (nm_r (nI_1 i) (hw _ (sm_fill (f := fun _ => 0) hs rfl)))⟩)
theorem sm_em {post : St2 → Prop} {le fs ff tk : Int32} {a1 a2 a3 a4 a5 a6 a7 a8 a9 a10 a11 a12 a13 a14 a15 : Nat → Int32} (H : ∀ a6 a7, sm_Q 12 a6 a7 → post (3, le, fs, ff, tk, a1, a2, a3, a4, a5, a6, a7, a8, a9, a10, a11, a12, a13, a14, a15)) : wpX_empty post (3, le, fs, ff, tk, a1, a2, a3, a4, a5, a6, a7, a8, a9, a10, a11, a12, a13, a14, a15) := by
  refine pk_loop (fun n i s => wX_empty_2 post 3 le fs ff tk n (nI i) a1 a2 a3 a4 a5 s a7 a8 a9 a10 a11 a12 a13 a14 a15) (fun i s => ∀ j, j < i → s j = -1) 8 0 a6 (by omega) (fun j hj => absurd hj (by omega)) ?_ ?_
  · intro n s hs
    refine pk_le 8 8 (fun _ => sm_e23 (fun a7 h => H s a7 ?_)) (fun z => absurd z (by omega))
    exact ⟨hs 1 (by omega), hs 2 (by omega), fun z => absurd z (by omega), fun _ => hs 0 (by omega), fun j hj => by rw [h j hj, if_neg (by omega)]; rfl⟩
  · intro n i s hi hs hw
    exact pk_le 8 i (fun z => absurd z (by omega)) (fun _ => ⟨pk_in i 8 hi, nm_r (e' := upd s i (-1)) (by rw [nI_clamp (by omega)]) (nm_r (nI_1 i) (hw _ (sm_fill (f := fun _ => -1) hs rfl)))⟩)
theorem sm_ho {post : Int32 → Prop} {U : Nat} {le fs ff tk : Int32} {a1 a2 a3 a4 a5 a6 a7 a8 a9 a10 a11 a12 a13 a14 a15 : Nat → Int32} (hU : U = 0 ∨ U = 1) (h1 : a1 0 = nI U) (H : post (nI U)) : wpX_holds post (3, le, fs, ff, tk, a1, a2, a3, a4, a5, a6, a7, a8, a9, a10, a11, a12, a13, a14, a15) 0 := by
  rcases hU with e | e
  · subst e
    exact br_f (by decide) (br_f (by decide) ⟨pk_in 0 8 (by decide), br_t h1 H⟩)
  · subst e
    exact br_f (by decide) (br_f (by decide) ⟨pk_in 0 8 (by decide), br_f (sm_ne (a := nI 1) h1 (by decide)) H⟩)
theorem sm_pa {post : Int32 → Prop} {le fs ff tk : Int32} {a1 a2 a3 a4 a5 a6 a7 a8 a9 a10 a11 a12 a13 a14 a15 : Nat → Int32} (h0 : a8 0 = 1) (h1 : a8 1 = 0) (h2 : a8 2 = 0) (H : post 21) : wpX_priceAgainst post (3, le, fs, ff, tk, a1, a2, a3, a4, a5, a6, a7, a8, a9, a10, a11, a12, a13, a14, a15) 0 := by
  refine ⟨4, br_f (by decide) ⟨pk_in 0 8 (by decide), br_f (sm_ne (a := 1) h0 (by decide)) (br_t rfl (nm_r (e' := 1) (by decide) ?_))⟩⟩
  refine br_f (by decide) ⟨pk_in 1 8 (by decide), br_t h1 (nm_r (e' := 2) (by decide) ?_)⟩
  refine br_f (by decide) ⟨pk_in 2 8 (by decide), br_t h2 (nm_r (e' := 3) (by decide) ?_)⟩
  exact br_t (by decide) (br_f (by decide) H)
/-- place for a job that sits nowhere, held against what is known: it is placed just if there is a place -/
theorem sm_pF {post : Int32 → St2 → Prop} {m k c f t q p : Nat} {le fs ff tk : Int32} {a1 a2 a3 a4 a5 a6 a7 a8 a9 a10 a11 a12 a13 a14 a15 : Nat → Int32} (hm : m ≤ 3) (hc : c ≤ 3) (hf : f ≤ t) (ht : t ≤ 11) (h2 : a2 0 = nI f) (h3 : a3 0 = nI t) (h5 : ∀ j, j < 12 → a5 j = nI (sm_r m k c j)) (hF : sm_F f t (sm_r m k c) q) (hQ : sm_Q p a6 a7) (hp : ¬ p < 12)
    (H0 : ∀ le fs ff a8 a9 a10, a8 0 = 1 → a8 1 = 0 → a8 2 = 0 → ¬ q < 12 → post 0 (3, le, fs, ff, tk, a1, a2, a3, a4, a5, a6, a7, a8, a9, a10, a11, a12, a13, a14, a15))
    (H1 : ∀ le fs ff a8 a9 a10, q < 12 → post 1 (3, le, fs, ff, tk, a1, a2, a3, a4, a5, upd a6 0 (nI q), upd a7 q ((a7 q + 1).toInt8.toInt32), a8, a9, a10, a11, a12, a13, a14, a15)) : wpX_place post (3, le, fs, ff, tk, a1, a2, a3, a4, a5, a6, a7, a8, a9, a10, a11, a12, a13, a14, a15) 0 := by
  have hr : ∀ j, sm_r m k c j ≤ 3 := sm_r_le hm hc
  refine sm_pl hf ht h2 h3 (hQ.2.2.2.1 hp) hQ.1 hQ.2.1 (fun le fs ff a8 a9 a10 g0 g1 g2 hh => ?_) (fun le fs ff a8 a9 a10 x g1 g2 g3 g4 => ?_)
  · exact H0 _ _ _ _ _ _ g0 g1 g2 (sm_Fn hF (fun j h1 h2 => (sm_full hQ hp h5 hr (by omega)).mp (hh j h1 h2)))
  · have F := sm_F1 hQ hp ht h5 hr g1 g2 g3 g4
    have e : q = x := sm_Fu hF g1 g2 (by omega) (F.1 (by omega)).2.2 (fun j h1 h2 => F.2 j h1 (by omega) h2)
    subst e
    exact H1 _ _ _ _ _ _ (by omega)
/-- the answer of price -/
def sm_P (U q : Nat) : Int32 := if U = 0 then -1 else if q < 12 then 1 else 21
theorem sm_pr {post : Int32 → St2 → Prop} {U m k c f t w q : Nat} {le fs ff tk : Int32} {a1 a2 a3 a4 a5 a6 a7 a8 a9 a10 a11 a12 a13 a14 a15 : Nat → Int32} (hO : sm_O U m k c f t w q) (hK : sm_K U m k c f t w q a1 a2 a3 a4 a5 a6 a7)
    (H : ∀ le fs ff a1 a6 a7 a8 a9 a10 a11 a12, sm_K U m k c f t w q a1 a2 a3 a4 a5 a6 a7 → post (sm_P U q) (3, le, fs, ff, tk, a1, a2, a3, a4, a5, a6, a7, a8, a9, a10, a11, a12, a13, a14, a15)) : wpX_price post (3, le, fs, ff, tk, a1, a2, a3, a4, a5, a6, a7, a8, a9, a10, a11, a12, a13, a14, a15) 0 := by
  have hK0 := hK
  obtain ⟨hm, hc, hw, hf, ht, ho⟩ := hO
  obtain ⟨k10, k11, k12, k2, k3, k4, k5, kQ⟩ := hK
  unfold wpX_price
  rcases ho with ⟨hU, hq⟩ | ⟨hU, hF⟩
  · subst hU
    exact sm_ho (Or.inl rfl) k10 (br_t rfl (H le fs ff a1 a6 a7 a8 a9 a10 a11 a12 hK0))
  · subst hU
    refine sm_ho (Or.inr rfl) k10 (br_f (by decide) (sm_sa kQ (fun a11 a12 hS => ⟨pk_in 0 8 (by decide), ?_⟩)))
    by_cases hq : q < 12
    · have kQ' := sm_Qvac (p := 12) kQ hq (by omega)
      have H' : ∀ le fs ff a1 a6 a7 a8 a9 a10 a11 a12, sm_K 1 m k c f t w q a1 a2 a3 a4 a5 a6 a7 → post 1 (3, le, fs, ff, tk, a1, a2, a3, a4, a5, a6, a7, a8, a9, a10, a11, a12, a13, a14, a15) := fun le fs ff a1 a6 a7 a8 a9 a10 a11 a12 h => by
        have := H le fs ff a1 a6 a7 a8 a9 a10 a11 a12 h
        rw [show sm_P 1 q = 1 by simp [sm_P, hq]] at this
        exact this
      refine br_f (sm_nn (kQ.2.2.1 hq) hq) (sm_v1 hq (kQ.2.2.1 hq) ⟨pk_in 0 8 (by decide), nm_r (e' := upd a1 0 0) rfl ?_⟩)
      refine sm_fA (Or.inl pk_us) (by rw [pk_un (by omega)]; exact k11) (by rw [pk_un (by omega)]; exact k12) ⟨pk_in 0 8 (by decide), nm_r (e' := upd (upd a1 0 0) 0 1) rfl ?_⟩
      unfold wX_price_46
      refine sm_pF hm hc hf ht k2 k3 k5 hF kQ' (by omega) (fun le fs ff a8 a9 a10 _ _ _ z => absurd hq z) (fun le fs ff a8 a9 a10 _ => br_f (by decide) ?_)
      unfold wX_price_65
      refine sm_re hS (fun a6 a7 hQ => H' _ _ _ _ _ _ _ _ _ _ _ ⟨pk_us, ?_, ?_, k2, k3, k4, k5, hQ⟩)
      · rw [pk_un (by omega), pk_un (by omega)]; exact k11
      · rw [pk_un (by omega), pk_un (by omega)]; exact k12
    · have H' : ∀ le fs ff a1 a6 a7 a8 a9 a10 a11 a12, sm_K 1 m k c f t w q a1 a2 a3 a4 a5 a6 a7 → post 21 (3, le, fs, ff, tk, a1, a2, a3, a4, a5, a6, a7, a8, a9, a10, a11, a12, a13, a14, a15) := fun le fs ff a1 a6 a7 a8 a9 a10 a11 a12 h => by
        have := H le fs ff a1 a6 a7 a8 a9 a10 a11 a12 h
        rw [show sm_P 1 q = 21 by simp [sm_P, hq]] at this
        exact this
      refine br_t (sm_neg (kQ.2.2.2.1 hq)) ?_
      unfold wX_price_46
      refine sm_pF hm hc hf ht k2 k3 k5 hF kQ hq (fun le fs ff a8 a9 a10 g0 g1 g2 _ => br_t rfl (sm_pa g0 g1 g2 ?_)) (fun le fs ff a8 a9 a10 z => absurd z hq)
      unfold wX_price_65
      exact sm_re hS (fun a6 a7 hQ => H' _ _ _ _ _ _ _ _ _ _ _ ⟨k10, k11, k12, k2, k3, k4, k5, hQ⟩)
end
section
/-! ===== slotOf: fix, makeTable ===== -/
theorem sm_67 {post : St2 → Prop} {q : Nat} {le fs ff tk : Int32} {a1 a2 a3 a4 a5 a6 a7 a8 a9 a10 a11 a12 a13 a14 a15 : Nat → Int32} (hq : q < 12) (h6 : a6 0 = nI q) (H : post (3, le, fs, ff, tk, a1, a2, a3, a4, a5, a6, a7, a8, a9, a10, a11, a12, a13, a14, upd a15 0 (nI q))) : wX_fix_67 post 0 3 le fs ff tk a1 a2 a3 a4 a5 a6 a7 a8 a9 a10 a11 a12 a13 a14 a15 := by
  refine ⟨pk_in 0 8 (by decide), pk_in 0 8 (by decide), nm_r (e' := upd a15 0 (nI q)) ?_ H⟩
  show upd a15 0 (vp_nar .byte (a6 0)) = upd a15 0 (nI q)
  rw [h6, sm_vb (by omega)]
theorem sm_25 {post : St2 → Prop} {q : Nat} {tk : Int32} {a1 a4 a5 a6 a7 a11 a12 a13 a14 a15 : Nat → Int32} (hq : q < 12) (h60 : a6 0 = -1) (h61 : a6 1 = -1) (h62 : a6 2 = -1) (h5 : ¬ a5 q ≤ a7 q)
    (H : ∀ le fs ff a2 a3 a8 a9 a10, post (3, le, fs, ff, tk, a1, a2, a3, a4, a5, upd a6 0 (nI q), upd a7 q ((a7 q + 1).toInt8.toInt32), a8, a9, a10, a11, a12, a13, a14, upd a15 0 (nI q))) :
    ∀ d i le fs ff a2 a3 a8 a9 a10, i + d = q → (∀ j, i ≤ j → j < q → a5 j ≤ a7 j) → wX_fix_25 post 0 (nI q) (d + 2) 0 (nI i) 3 le fs ff tk a1 a2 a3 a4 a5 a6 a7 a8 a9 a10 a11 a12 a13 a14 a15 := by
  intro d
  induction d with
  | zero =>
    intro i le fs ff a2 a3 a8 a9 a10 hi hh
    have e : i = q := by omega
    subst e
    refine pk_lt i i (fun z => absurd z (by omega)) (fun _ => br_t rfl ⟨pk_in 0 8 (by decide), nm_r (e' := upd a2 0 (nI i)) (by rw [sm_b i (by omega)]; rfl) ⟨pk_in 0 8 (by decide), nm_r (e' := upd a3 0 (nI i)) (by rw [sm_b i (by omega)]; rfl) ?_⟩⟩)
    refine sm_pl (Nat.le_refl i) (by omega) pk_us pk_us h60 h61 h62 (fun le fs ff a8 a9 a10 _ _ _ g => absurd (g i (Nat.le_refl i) (Nat.le_refl i)) h5) (fun le fs ff a8 a9 a10 x g1 g2 g3 g4 => ?_)
    have e : x = i := by omega
    subst e
    exact nm_r (nI_1 x) (pk_lt x (x + 1) (fun _ => sm_67 hq pk_us (H _ _ _ _ _ _ _ _)) (fun z => absurd z (by omega)))
  | succ d ih =>
    intro i le fs ff a2 a3 a8 a9 a10 hi hh
    refine pk_lt q i (fun z => absurd z (by omega)) (fun _ => br_t rfl ⟨pk_in 0 8 (by decide), nm_r (e' := upd a2 0 (nI i)) (by rw [sm_b i (by omega)]; rfl) ⟨pk_in 0 8 (by decide), nm_r (e' := upd a3 0 (nI i)) (by rw [sm_b i (by omega)]; rfl) ?_⟩⟩)
    refine sm_pl (Nat.le_refl i) (by omega) pk_us pk_us h60 h61 h62 (fun le fs ff a8 a9 a10 _ _ _ g => ?_) (fun le fs ff a8 a9 a10 x g1 g2 g3 g4 => ?_)
    · exact nm_r (nI_1 i) (ih (i + 1) _ _ _ _ _ _ _ _ (by omega) (fun j h1 h2 => hh j (by omega) h2))
    · have e : x = i := by omega
      subst e
      exact absurd (hh x (Nat.le_refl x) (by omega)) g3
theorem sm_fx {post : St2 → Prop} {m k c f t q : Nat} {le fs ff tk : Int32} {a1 a2 a3 a4 a5 a6 a7 a8 a9 a10 a11 a12 a13 a14 a15 : Nat → Int32} (hm : m ≤ 3) (hc : c ≤ 3) (ht : t ≤ 11) (h2 : a2 0 = nI f) (h5 : ∀ j, j < 12 → a5 j = nI (sm_r m k c j)) (hF : sm_F f t (sm_r m k c) q) (hQ : sm_Q q a6 a7) (hq : q < 12)
    (H : ∀ le fs ff a2 a3 a6 a7 a8 a9 a10 a15, sm_Q q a6 a7 → a15 0 = nI q → post (3, le, fs, ff, tk, a1, a2, a3, a4, a5, a6, a7, a8, a9, a10, a11, a12, a13, a14, a15)) : wpX_fix post (3, le, fs, ff, tk, a1, a2, a3, a4, a5, a6, a7, a8, a9, a10, a11, a12, a13, a14, a15) 0 := by
  have hQ' := sm_Qvac (p := 12) hQ hq (by omega)
  have hr : ∀ j, sm_r m k c j ≤ 3 := sm_r_le hm hc
  obtain ⟨b1, b2, b3⟩ := hF.1 hq
  refine ⟨pk_in 0 8 (by decide), nm_r (e' := nI f) h2 ⟨pk_in 0 8 (by decide), nm_r (e' := nI q) (hQ.2.2.1 hq) (sm_v1 hq (hQ.2.2.1 hq) (sm_ex (q - f + 2) ?_))⟩⟩
  refine sm_25 hq (hQ'.2.2.2.1 (by omega)) hQ'.1 hQ'.2.1 ?_ (fun le fs ff a2 a3 a8 a9 a10 => ?_) (q - f) f _ _ _ _ _ _ _ _ (by omega) (fun j h1 h2 => ?_)
  · intro z
    have := (sm_full hQ' (by omega) h5 hr hq).mp z
    omega
  · exact H _ _ _ _ _ _ _ _ _ _ _ (sm_Qsit hQ' (by omega) hq) pk_us
  · exact (sm_full hQ' (by omega) h5 hr (by omega)).mpr (hF.2 j h1 (by omega) h2)
theorem sm_79 {post : St2 → Prop} {f t q : Nat} {le fs ff tk : Int32} {a1 a2 a3 a4 a5 a6 a7 a8 a9 a10 a11 a12 a13 a14 a15 : Nat → Int32} (hf : f < 12) (ht : t < 12) (h13 : a13 0 = nI f) (h14 : a14 0 = nI t) (hQ : sm_Q q a11 a12)
    (H : ∀ a2 a3 a6 a7, a2 0 = nI f → a3 0 = nI t → sm_Q q a6 a7 → post (3, le, fs, ff, tk, a1, a2, a3, a4, a5, a6, a7, a8, a9, a10, a11, a12, a13, a14, a15)) : ∃ n, wX_makeTable_79 post 3 le fs ff tk n 0 a1 a2 a3 a4 a5 a6 a7 a8 a9 a10 a11 a12 a13 a14 a15 := by
  refine pk_loop (σ := (Nat → Int32) × (Nat → Int32)) (fun n i s => wX_makeTable_79 post 3 le fs ff tk n (nI i) a1 s.1 s.2 a4 a5 a6 a7 a8 a9 a10 a11 a12 a13 a14 a15) (fun i s => 0 < i → s.1 0 = nI f ∧ s.2 0 = nI t) 8 0 (a2, a3) (by omega) (fun z => absurd z (by omega)) ?_ ?_
  · intro n s hs
    obtain ⟨s1, s2⟩ := hs (by omega)
    exact pk_le 8 8 (fun _ => sm_re hQ (fun a6 a7 g => H _ _ a6 a7 s1 s2 g)) (fun z => absurd z (by omega))
  · intro n i s hi hs hw
    refine pk_le 8 i (fun z => absurd z (by omega)) (fun _ => ⟨pk_in i 8 hi, pk_in i 8 hi, nm_r (e' := upd s.1 i (vp_nar .byte (a13 i))) (by rw [nI_clamp (by omega)]) ⟨pk_in i 8 hi, pk_in i 8 hi, nm_r (e' := upd s.2 i (vp_nar .byte (a14 i))) (by rw [nI_clamp (by omega)]) (nm_r (nI_1 i) ?_)⟩⟩)
    refine hw (upd s.1 i (vp_nar .byte (a13 i)), upd s.2 i (vp_nar .byte (a14 i))) (fun _ => ?_)
    dsimp only
    by_cases e : i = 0
    · subst e
      exact ⟨by rw [pk_us, h13, sm_vb (by omega)], by rw [pk_us, h14, sm_vb (by omega)]⟩
    · obtain ⟨s1, s2⟩ := hs (by omega)
      exact ⟨by rw [pk_un (by omega)]; exact s1, by rw [pk_un (by omega)]; exact s2⟩
theorem sm_49 {post : St2 → Prop} {m k c f t q : Nat} {le fs ff tk : Int32} {a1 a2 a3 a4 a5 a6 a7 a8 a9 a10 a11 a12 a13 a14 a15 : Nat → Int32} (hm : m ≤ 3) (hc : c ≤ 3) (hf : f ≤ t) (ht : t ≤ 11) (h2 : a2 0 = nI f) (h5 : ∀ j, j < 12 → a5 j = nI (sm_r m k c j)) (hF : sm_F f t (sm_r m k c) q) (hQ : sm_Q q a6 a7) (hq : q < 12)
    (h13 : a13 0 = nI f) (h14 : a14 0 = nI t) (hS : sm_Q q a11 a12)
    (H : ∀ le fs ff a2 a3 a6 a7 a8 a9 a10 a15, a2 0 = nI f → a3 0 = nI t → sm_Q q a6 a7 → a15 0 = nI q → post (3, le, fs, ff, tk, a1, a2, a3, a4, a5, a6, a7, a8, a9, a10, a11, a12, a13, a14, a15)) : ∃ n, wX_makeTable_49 post n 0 3 le fs ff tk a1 a2 a3 a4 a5 a6 a7 a8 a9 a10 a11 a12 a13 a14 a15 := by
  refine ⟨4, br_f (by decide) ⟨pk_in 0 8 (by decide), br_f (sm_nn (hQ.2.2.1 hq) hq) (sm_fx hm hc ht h2 h5 hF hQ hq (fun le fs ff a2 a3 a6 a7 a8 a9 a10 a15 g6 g15 => nm_r (e' := 1) (by decide) ?_))⟩⟩
  refine br_f (by decide) ⟨pk_in 1 8 (by decide), br_t (sm_neg g6.1) (nm_r (e' := 2) (by decide) ?_)⟩
  refine br_f (by decide) ⟨pk_in 2 8 (by decide), br_t (sm_neg g6.2.1) (nm_r (e' := 3) (by decide) ?_)⟩
  exact br_t (by decide) (sm_79 (by omega) (by omega) h13 h14 hS (fun a2 a3 a6 a7 e2 e3 e6 => H _ _ _ _ _ _ _ _ _ _ _ e2 e3 e6 g15))
theorem sm_11 {post : St2 → Prop} {m k c f t q : Nat} {le fs ff tk : Int32} {a1 a2 a3 a4 a5 a6 a7 a8 a9 a10 a11 a12 a13 a14 a15 : Nat → Int32} (hm : m ≤ 3) (hc : c ≤ 3) (hf : f ≤ t) (ht : t ≤ 11) (h2 : a2 0 = nI f) (h3 : a3 0 = nI t) (h5 : ∀ j, j < 12 → a5 j = nI (sm_r m k c j)) (hF : sm_F f t (sm_r m k c) q) (hQ : sm_Q q a6 a7) (hq : q < 12) (hS : sm_Q q a11 a12)
    (H : ∀ le fs ff a2 a3 a6 a7 a8 a9 a10 a13 a14 a15, a2 0 = nI f → a3 0 = nI t → sm_Q q a6 a7 → a15 0 = nI q → post (3, le, fs, ff, tk, a1, a2, a3, a4, a5, a6, a7, a8, a9, a10, a11, a12, a13, a14, a15)) : ∃ n, wX_makeTable_11 post 3 le fs ff tk n 0 a1 a2 a3 a4 a5 a6 a7 a8 a9 a10 a11 a12 a13 a14 a15 := by
  refine pk_loop (σ := (Nat → Int32) × (Nat → Int32)) (fun n i s => wX_makeTable_11 post 3 le fs ff tk n (nI i) a1 a2 a3 a4 a5 a6 a7 a8 a9 a10 a11 a12 s.1 s.2 a15) (fun i s => 0 < i → s.1 0 = nI f ∧ s.2 0 = nI t) 8 0 (a13, a14) (by omega) (fun z => absurd z (by omega)) ?_ ?_
  · intro n s hs
    obtain ⟨s1, s2⟩ := hs (by omega)
    exact pk_le 8 8 (fun _ => sm_49 hm hc hf ht h2 h5 hF hQ hq s1 s2 hS (fun le fs ff a2 a3 a6 a7 a8 a9 a10 a15 e2 e3 e6 e15 => H _ _ _ _ _ _ _ _ _ _ _ _ _ e2 e3 e6 e15)) (fun z => absurd z (by omega))
  · intro n i s hi hs hw
    refine pk_le 8 i (fun z => absurd z (by omega)) (fun _ => ⟨pk_in i 8 hi, pk_in i 8 hi, nm_r (e' := upd s.1 i (vp_nar .byte (a2 i))) (by rw [nI_clamp (by omega)]) ⟨pk_in i 8 hi, pk_in i 8 hi, nm_r (e' := upd s.2 i (vp_nar .byte (a3 i))) (by rw [nI_clamp (by omega)]) (nm_r (nI_1 i) ?_)⟩⟩)
    refine hw (upd s.1 i (vp_nar .byte (a2 i)), upd s.2 i (vp_nar .byte (a3 i))) (fun _ => ?_)
    dsimp only
    by_cases e : i = 0
    · subst e
      exact ⟨by rw [pk_us, h2, sm_vb (by omega)], by rw [pk_us, h3, sm_vb (by omega)]⟩
    · obtain ⟨s1, s2⟩ := hs (by omega)
      exact ⟨by rw [pk_un (by omega)]; exact s1, by rw [pk_un (by omega)]; exact s2⟩
/-- the answer of slotOf -/
def sm_S (q : Nat) : Int32 := if q < 12 then nI q else -1
theorem sm_so {post : Int32 → St2 → Prop} {U m k c f t w q : Nat} {le fs ff : Int32} {a1 a2 a3 a4 a5 a6 a7 a8 a9 a10 a11 a12 a13 a14 a15 : Nat → Int32} (hO : sm_O U m k c f t w q) (hK : sm_K U m k c f t w q a1 a2 a3 a4 a5 a6 a7)
    (H : ∀ le fs ff tk a2 a3 a6 a7 a8 a9 a10 a11 a12 a13 a14 a15, sm_K U m k c f t w q a1 a2 a3 a4 a5 a6 a7 → post (sm_S q) (3, le, fs, ff, tk, a1, a2, a3, a4, a5, a6, a7, a8, a9, a10, a11, a12, a13, a14, a15)) : wpX_slotOf post (3, le, fs, ff, 0, a1, a2, a3, a4, a5, a6, a7, a8, a9, a10, a11, a12, a13, a14, a15) 0 := by
  have hK0 := hK
  obtain ⟨hm, hc, hw, hf, ht, ho⟩ := hO
  obtain ⟨k10, k11, k12, k2, k3, k4, k5, kQ⟩ := hK
  have H' : ¬ q < 12 → post (-1) (3, le, fs, ff, 0, a1, a2, a3, a4, a5, a6, a7, a8, a9, a10, a11, a12, a13, a14, a15) := fun hq => by
    have := H le fs ff 0 a2 a3 a6 a7 a8 a9 a10 a11 a12 a13 a14 a15 hK0
    rw [show sm_S q = -1 by simp [sm_S, hq]] at this
    exact this
  unfold wpX_slotOf
  rcases ho with ⟨hU, hq⟩ | ⟨hU, hF⟩
  · subst hU
    exact sm_ho (Or.inl rfl) k10 (br_t rfl (H' hq))
  · subst hU
    refine sm_ho (Or.inr rfl) k10 (br_f (by decide) ⟨pk_in 0 8 (by decide), ?_⟩)
    by_cases hq : q < 12
    · refine br_t (by show 0 ≤ a6 0; rw [kQ.2.2.1 hq]; exact nI_pos' (by omega)) (br_t rfl ?_)
      unfold wpX_makeTable
      refine sm_sa kQ (fun a11 a12 hS => sm_11 hm hc hf ht k2 k3 k5 hF kQ hq hS (fun le fs ff a2 a3 a6 a7 a8 a9 a10 a13 a14 a15 e2 e3 e6 e15 => ⟨pk_in 0 8 (by decide), ?_⟩))
      have X := H le fs ff 1 a2 a3 a6 a7 a8 a9 a10 a11 a12 a13 a14 a15 ⟨k10, k11, k12, e2, e3, k4, k5, e6⟩
      rw [show sm_S q = a15 0 by rw [e15]; simp [sm_S, hq]] at X
      exact X
    · refine br_f (by show ¬ 0 ≤ a6 0; rw [kQ.2.2.2.1 hq]; decide) (H' hq)
/-! ===== fits ===== -/
theorem sm_jo {post : Int32 → Prop} {U : Nat} {le fs ff tk : Int32} {a1 a2 a3 a4 a5 a6 a7 a8 a9 a10 a11 a12 a13 a14 a15 : Nat → Int32} (hU : U = 0 ∨ U = 1) (h0 : a1 0 = nI U) (h1 : a1 1 = 0) (h2 : a1 2 = 0) (H : post (nI U)) : wpX_jobs post (3, le, fs, ff, tk, a1, a2, a3, a4, a5, a6, a7, a8, a9, a10, a11, a12, a13, a14, a15) := by
  have R : ∀ x, post x → wX_jobs_4 post 3 le fs ff tk a1 a2 a3 a4 a5 a6 a7 a8 a9 a10 a11 a12 a13 a14 a15 3 x 1 := by
    intro x hx
    refine br_f (by decide) ⟨pk_in 1 8 (by decide), br_t h1 (nm_r (e' := 2) (by decide) ?_)⟩
    refine br_f (by decide) ⟨pk_in 2 8 (by decide), br_t h2 (nm_r (e' := 3) (by decide) ?_)⟩
    exact br_t (by decide) hx
  refine ⟨4, br_f (by decide) ⟨pk_in 0 8 (by decide), ?_⟩⟩
  rcases hU with e | e
  · subst e
    exact br_t h0 (nm_r (e' := 1) (by decide) (R _ H))
  · subst e
    exact br_f (sm_ne (a := nI 1) h0 (by decide)) (nm_r (e' := nI 1) (by decide) (nm_r (e' := 1) (by decide) (R _ H)))
theorem sm_fi {post : Int32 → St2 → Prop} {U m k c f t w q : Nat} {le fs ff tk : Int32} {a1 a2 a3 a4 a5 a6 a7 a8 a9 a10 a11 a12 a13 a14 a15 : Nat → Int32} (hO : sm_O U m k c f t w q) (hK : sm_K U m k c f t w q a1 a2 a3 a4 a5 a6 a7)
    (H : ∀ le fs ff tk a1 a2 a3 a4 a5 a6 a7 a8 a9 a10 a11 a12 a13 a14 a15, post (if q < 12 then 1 else 0) (3, le, fs, ff, tk, a1, a2, a3, a4, a5, a6, a7, a8, a9, a10, a11, a12, a13, a14, a15)) : wpX_fits post (3, le, fs, ff, tk, a1, a2, a3, a4, a5, a6, a7, a8, a9, a10, a11, a12, a13, a14, a15) 1 := by
  obtain ⟨hm, hc, hw, hf, ht, ho⟩ := hO
  obtain ⟨k10, k11, k12, k2, k3, k4, k5, kQ⟩ := hK
  unfold wpX_fits
  rcases ho with ⟨hU, hq⟩ | ⟨hU, hF⟩
  · subst hU
    rw [if_neg hq] at H
    exact sm_jo (Or.inl rfl) k10 k11 k12 (br_f (by decide) (H _ _ _ _ _ _ _ _ _ _ _ _ _ _ _ _ _ _ _))
  · subst hU
    refine sm_jo (Or.inr rfl) k10 k11 k12 (br_t (by decide) (sm_sa kQ (fun a11 a12 hS => sm_em (fun a6 a7 hQ => ⟨4, ?_⟩))))
    refine br_f (by decide) (br_f (by decide) (br_f (by decide) ?_))
    refine sm_pF hm hc hf ht k2 k3 k5 hF hQ (by omega) (fun le fs ff a8 a9 a10 _ _ _ hq => ?_) (fun le fs ff a8 a9 a10 hq => ?_)
    · rw [if_neg hq] at H
      refine nm_r (e' := 1) (by decide) (br_f (by decide) (br_t rfl ?_))
      unfold wX_fits_63
      exact sm_re hS (fun a6 a7 _ => ⟨rfl, H _ _ _ _ _ _ _ _ _ _ _ _ _ _ _ _ _ _ _⟩)
    · rw [if_pos hq] at H
      refine nm_r (e' := 1) (by decide) (br_f (by decide) (br_f (by decide) (br_t (by decide) (nm_r (e' := 2) (by decide) ?_))))
      refine br_f (by decide) (br_f (by decide) (br_t (by decide) (nm_r (e' := 3) (by decide) ?_)))
      refine br_t (by decide) ?_
      unfold wX_fits_63
      exact sm_re hS (fun a6 a7 _ => ⟨rfl, H _ _ _ _ _ _ _ _ _ _ _ _ _ _ _ _ _ _ _⟩)
end
section
/-! ===== the law: what is due, and the checks ===== -/
def sm_d2 (x2 z : Int32) : Int32 := if z ≤ x2 then z else -1
def sm_d1 (x1 x2 x4 x5 x15 x16 : Int32) : Int32 := if x16 = 0 then -1 else if x15 = 0 then sm_d2 x2 x1 else if x4 = x1 then (if x5 = 0 then sm_d2 x2 (x1 + 1) else sm_d2 x2 x1) else sm_d2 x2 x1
def sm_du (x1 x2 x4 x5 x15 x16 : Int32) : Int32 := if x15 = 0 then sm_d1 x1 x2 x4 x5 x15 x16 else if x4 < x1 then sm_d1 x1 x2 x4 x5 x15 x16 else if x2 < x4 then sm_d1 x1 x2 x4 x5 x15 x16 else if x5 ≤ 0 then sm_d1 x1 x2 x4 x5 x15 x16 else if x16 = 0 then x4 else x1
theorem sm_Sx {q x : Nat} (h : q = x) (hx : x < 12) : nI x = sm_S q := by
  subst h
  simp [sm_S, hx]
theorem sm_Sn {q : Nat} (h : ¬ q < 12) : -1 = sm_S q := by simp [sm_S, h]
theorem sm_d2f {f t : Nat} (hf : f ≤ t) (ht : t ≤ 11) : sm_d2 (nI t) (nI f) = nI f := by
  unfold sm_d2
  rw [if_pos (nI_le hf (by omega))]
theorem sm_d2n {f t : Nat} (hf : t < f) (ht : f ≤ 12) : sm_d2 (nI t) (nI f) = -1 := by
  unfold sm_d2
  rw [if_neg (nI_ge hf (by omega))]
theorem sm_q_f {m k c f t q : Nat} (hf : f ≤ t) (ht : t ≤ 11) (hF : sm_F f t (sm_r m k c) q) (h : 0 < sm_r m k c f) : q = f :=
  sm_Fu hF (Nat.le_refl f) hf (by omega) h (fun j h1 h2 => absurd h1 (by omega))
/-- outside the first branch -/
theorem sm_e1 {m k c f t q : Nat} (hf : f ≤ t) (ht : t ≤ 11) (hk : k ≤ 11) (hc : c ≤ 3) (hF : sm_F f t (sm_r m k c) q) (hn : ¬ (f ≤ k ∧ k ≤ t ∧ 0 < c)) :
    sm_d1 (nI f) (nI t) (nI k) (nI c) 1 (if m = 0 then 0 else 1) = sm_S q := by
  unfold sm_d1
  by_cases hm : m = 0
  · rw [if_pos hm, if_pos rfl]
    refine sm_Sn (sm_Fn hF (fun j h1 h2 => ?_))
    by_cases e : j = k
    · rw [e, sm_r_k]
      omega
    · rw [sm_r_n e]
      exact hm
  · rw [if_neg hm, if_neg (by decide), if_neg (by decide)]
    by_cases e : k = f
    · rw [if_pos (by rw [e])]
      by_cases e0 : c = 0
      · rw [if_pos (by rw [e0]; rfl), nI_1]
        by_cases g : f + 1 ≤ t
        · rw [sm_d2f g ht]
          refine sm_Sx (sm_Fu hF (by omega) g (by omega) ?_ (fun j h1 h2 => ?_)) (by omega)
          · rw [sm_r_n (by omega)]
            omega
          · have ej : j = k := by omega
            rw [ej, sm_r_k]
            exact e0
        · rw [sm_d2n (by omega) (by omega)]
          refine sm_Sn (sm_Fn hF (fun j h1 h2 => ?_))
          have ej : j = k := by omega
          rw [ej, sm_r_k]
          exact e0
      · rw [if_neg (nI_ne0 (by omega) (by omega)), sm_d2f hf ht]
        exact sm_Sx (sm_q_f hf ht hF (by rw [← e, sm_r_k]; omega)) (by omega)
    · rw [if_neg (fun z => e ((nI_eq (by omega) (by omega)).mp z)), sm_d2f hf ht]
      exact sm_Sx (sm_q_f hf ht hF (by rw [sm_r_n (fun z => e z.symm)]; omega)) (by omega)
theorem sm_e2 {m k c f t q : Nat} {p4 p5 v : Int32} (hf : f ≤ t) (ht : t ≤ 11) (hV : sm_V p4 p5 v m k c) (hF : sm_F f t (sm_r m k c) q) :
    sm_du (nI f) (nI t) p4 p5 v (if m = 0 then 0 else 1) = sm_S q := by
  unfold sm_du
  rcases hV with ⟨rfl, hk, hc, rfl, rfl⟩ | ⟨rfl, rfl, _⟩
  · rw [if_neg (by decide)]
    by_cases g1 : k < f
    · rw [if_pos (nI_lt g1 (by omega))]
      exact sm_e1 hf ht hk hc hF (by omega)
    rw [if_neg (nI_nlt (by omega) (by omega))]
    by_cases g2 : t < k
    · rw [if_pos (nI_lt g2 (by omega))]
      exact sm_e1 hf ht hk hc hF (by omega)
    rw [if_neg (nI_nlt (by omega) (by omega))]
    by_cases g3 : c = 0
    · rw [if_pos (by rw [g3]; decide)]
      exact sm_e1 hf ht hk hc hF (by omega)
    rw [if_neg (nI_nle (by omega) (by omega))]
    by_cases hm : m = 0
    · rw [if_pos hm, if_pos rfl]
      refine sm_Sx (sm_Fu hF (by omega) (by omega) (by omega) (by rw [sm_r_k]; omega) (fun j h1 h2 => ?_)) (by omega)
      rw [sm_r_n (by omega)]
      exact hm
    · rw [if_neg hm, if_neg (by decide)]
      refine sm_Sx (sm_q_f hf ht hF ?_) (by omega)
      unfold sm_r
      split <;> omega
  · rw [if_pos rfl]
    unfold sm_d1
    by_cases hm : c = 0
    · rw [if_pos hm, if_pos rfl]
      exact sm_Sn (sm_Fn hF (fun j _ _ => by rw [sm_r_m]; exact hm))
    · rw [if_neg hm, if_neg (by decide), if_pos rfl, sm_d2f hf ht]
      exact sm_Sx (sm_q_f hf ht hF (by rw [sm_r_m]; omega)) (by omega)
section LAW
variable {post : Int32 → St0 → Prop} {mc ms kc ks : Nat} {x0 x1 x2 x3 x4 x5 x7 x8 x9 x10 x11 x12 x13 x14 x15 x16 x17 z : Int32}
theorem sm_229b (h8 : x8 = x15) (hp : post 1 ()) : wL_lawOf_229 post mc ms x3 (-1) x8 0 0 (-1) (-1) 0 0 x15 x17 kc ks :=
  br_t rfl (br_t rfl (br_t h8 (br_t rfl (br_t rfl (br_t rfl (br_t rfl (br_t rfl hp)))))))
theorem sm_229g {q : Nat} (h8 : x8 = x15) (hp : post 1 ()) : wL_lawOf_229 post mc ms x3 0 x8 (if q < 12 then 1 else 0) (if q < 12 then x3 else 0) (sm_P 1 q) (sm_S q) (if q < 12 then 1 else 0) 1 x15 (sm_S q) kc ks := by
  by_cases hq : q < 12
  · have e1 : sm_P 1 q = 1 := by simp [sm_P, hq]
    have e2 : sm_S q = nI q := by simp [sm_S, hq]
    simp only [if_pos hq, e1, e2]
    refine br_f (by decide) (br_f (nI_pos (by omega)) (br_t rfl (br_t h8 (br_f (by decide) ?_))))
    exact br_t rfl (br_f (by decide) (br_t rfl (br_f (by decide) (br_t rfl (br_t rfl (br_t rfl hp))))))
  · have e1 : sm_P 1 q = 21 := by simp [sm_P, hq]
    have e2 : sm_S q = -1 := by simp [sm_S, hq]
    simp only [if_neg hq, e1, e2]
    refine br_f (by decide) (br_t (by decide) (br_t rfl (br_t h8 (br_t rfl ?_))))
    exact br_t rfl (br_t rfl (br_t rfl (br_t rfl (br_t rfl (br_t rfl (br_t rfl hp))))))
theorem sm_213 (H : wL_lawOf_229 post mc ms x3 x7 x8 x9 x10 x11 x12 x13 x14 x15 (sm_d2 x2 z) kc ks) : wL_lawOf_213 post mc ms x2 x3 x7 x8 x9 x10 x11 x12 x13 x14 x15 z kc ks := by
  unfold sm_d2 at H
  exact br_c (fun h => by rw [if_pos h] at H; exact H) (fun h => by rw [if_neg h] at H; exact H)
theorem sm_185 (H : wL_lawOf_229 post mc ms x3 x7 x8 x9 x10 x11 x12 x13 x14 x15 (sm_d1 x1 x2 x4 x5 x15 x16) kc ks) : wL_lawOf_185 post mc ms x1 x2 x3 x4 x5 x7 x8 x9 x10 x11 x12 x13 x14 x15 x16 (-1) kc ks := by
  unfold sm_d1 at H
  refine br_c (fun h1 => ?_) (fun h1 => br_c (fun h2 => ?_) (fun h2 => br_c (fun h3 => br_c (fun h4 => ?_) (fun h4 => ?_)) (fun h3 => ?_)))
  · rw [if_pos h1] at H; exact H
  · rw [if_neg h1, if_pos h2] at H; exact sm_213 H
  · rw [if_neg h1, if_neg h2, if_pos h3, if_pos h4] at H; exact sm_213 H
  · rw [if_neg h1, if_neg h2, if_pos h3, if_neg h4] at H; exact sm_213 H
  · rw [if_neg h1, if_neg h2, if_neg h3] at H; exact sm_213 H
theorem sm_142 (H : wL_lawOf_229 post mc ms x3 x7 x8 x9 x10 x11 x12 x13 x14 x15 (sm_du x1 x2 x4 x5 x15 x16) kc ks) : wL_lawOf_142 post mc ms x1 x2 x3 x4 x5 x7 x8 x9 x10 x11 x12 x13 x14 x15 x16 kc ks := by
  unfold sm_du at H
  refine br_c (fun h1 => ?_) (fun h1 => br_c (fun h2 => ?_) (fun h2 => br_c (fun h3 => ?_) (fun h3 => br_c (fun h4 => ?_) (fun h4 => br_c (fun h5 => ?_) (fun h5 => ?_)))))
  · rw [if_pos h1] at H; exact sm_185 H
  · rw [if_neg h1, if_pos h2] at H; exact sm_185 H
  · rw [if_neg h1, if_neg h2, if_pos h3] at H; exact sm_185 H
  · rw [if_neg h1, if_neg h2, if_neg h3, if_pos h4] at H; exact sm_185 H
  · rw [if_neg h1, if_neg h2, if_neg h3, if_neg h4, if_pos h5] at H; exact H
  · rw [if_neg h1, if_neg h2, if_neg h3, if_neg h4, if_neg h5] at H; exact H
theorem sm_131 {m : Nat} (h0 : 0 < m ↔ ¬ x0 ≤ 0) (H : wL_lawOf_229 post mc ms x3 x7 x8 x9 x10 x11 x12 x13 x14 x15 (sm_du x1 x2 x4 x5 x15 (if m = 0 then 0 else 1)) kc ks) : wL_lawOf_131 post mc ms x0 x1 x2 x3 x4 x5 x7 x8 x9 x10 x11 x12 x13 x14 x15 kc ks := by
  refine br_c (fun h => ?_) (fun h => ?_)
  · rw [if_pos (Nat.eq_zero_of_not_pos (fun z => h0.mp z h))] at H
    exact sm_142 H
  · rw [if_neg (by have := h0.mpr h; omega)] at H
    exact sm_142 H
theorem sm_101 {m k c : Nat} (hV : sm_V x4 x5 x8 m k c) (H : wL_lawOf_131 post mc ms x0 x1 x2 x3 x4 x5 x7 x8 x9 x10 x11 x12 x13 x14 x8 kc ks) : wL_lawOf_101 post mc ms x0 x1 x2 x3 x4 x5 x7 x8 x9 x10 x11 x12 x13 x14 kc ks := by
  rcases hV with ⟨rfl, hk, hc, rfl, rfl⟩ | ⟨rfl, rfl, h⟩
  · exact br_f (nI_pos (by omega)) (br_f (nI_nlt (b := k) (a := 11) hk (by decide)) (br_f (nI_pos (by omega)) (br_f (nI_nlt (b := c) (a := 3) hc (by decide)) H)))
  · refine br_c (fun _ => H) (fun z1 => br_c (fun _ => H) (fun z2 => br_c (fun _ => H) (fun z3 => br_c (fun _ => H) (fun z4 => ?_))))
    rcases h with h | h | h | h
    · exact absurd h z1
    · exact absurd h z2
    · exact absurd h z3
    · exact absurd h z4
end LAW
theorem sm_end {A B : Prop} {p1 p2 p3 v : Int32} {U f t w : Nat} (hG : sm_G p1 p2 p3 v U f t w) (hf : f ≤ t) (ht : t ≤ 11) (hw : w ≤ 20) (hA : v = -1 → U = 0 → A) (hB : v = 0 → U = 1 → p1 = nI f → p2 = nI t → p3 = nI w → B) :
    (p1 < 0 → A) ∧ (¬ p1 < 0 → ((p2 < p1 → A) ∧ (¬ p2 < p1 → ((11 < p2 → A) ∧ (¬ 11 < p2 → ((p3 < 1 → A) ∧ (¬ p3 < 1 → ((20 < p3 → A) ∧ (¬ 20 < p3 → B))))))))) := by
  rcases hG with ⟨hv, hU, hw1, rfl, rfl, rfl⟩ | ⟨hv, hU, h⟩
  · exact br_f (nI_pos (by omega)) (br_f (nI_nlt hf (by omega)) (br_f (nI_nlt (a := 11) ht (by decide)) (br_f (nI_nlt (b := 1) hw1 (by omega)) (br_f (nI_nlt (a := 20) hw (by decide)) (hB hv hU rfl rfl rfl)))))
  · have a := hA hv hU
    refine br_c (fun _ => a) (fun z1 => br_c (fun _ => a) (fun z2 => br_c (fun _ => a) (fun z3 => br_c (fun _ => a) (fun z4 => br_c (fun _ => a) (fun z5 => ?_)))))
    rcases h with h | h | h | h | h
    · exact absurd h z1
    · exact absurd h z2
    · exact absurd h z3
    · exact absurd h z4
    · exact absurd h z5
end
section
/-! ===== the whole law ===== -/
theorem sm_lawOf {post : Int32 → St0 → Prop} {p0 p1 p2 p3 p4 p5 : Int32} (hp : post 1 ()) : wpL_lawOf post 60 960 () p0 p1 p2 p3 p4 p5 := by
  refine ⟨by omega, by omega, 15, 132, by omega, by omega, ?_⟩
  refine sm_in (fun m a5 a6 hm h0 h5 h6 => ?_)
  refine sm_br hm h5 h6 (fun g U f t w q le fs ff a1 a2 a3 a4 a5 a6 a7 a8 a9 a10 a11 a12 a13 a14 a15 hG hO hK => ?_)
  refine sm_sr hO hK (fun v k c q le fs ff a1 a2 a3 a4 a5 a6 a7 a8 a9 a10 a11 a12 a13 a14 a15 hV hO hK => ?_)
  refine sm_ch hK.2.2.2.2.2.2.2 (sm_to hK.2.2.2.2.2.1 hK.2.2.2.2.2.2.2 ?_)
  refine sm_pr hO hK (fun le fs ff a1 a6 a7 a8 a9 a10 a11 a12 hK => ?_)
  refine sm_so hO hK (fun le fs ff tk a2 a3 a6 a7 a8 a9 a10 a11 a12 a13 a14 a15 hK => ?_)
  refine sm_fi hO hK (fun le fs ff tk a1 a2 a3 a4 a5 a6 a7 a8 a9 a10 a11 a12 a13 a14 a15 => ?_)
  obtain ⟨_, hc, hw, hf, ht, ho⟩ := hO
  refine sm_end hG hf ht hw (fun hv hU => ?_) (fun hv hU e1 e2 e3 => ?_)
  · subst hv hU
    rcases ho with ⟨_, hq⟩ | ⟨z, _⟩
    · refine sm_101 hV (sm_131 h0 ?_)
      rw [if_neg hq, if_neg hq, show sm_S q = -1 from (sm_Sn hq).symm]
      exact sm_229b rfl hp
    · exact absurd z (by omega)
  · subst hv hU e1 e2 e3
    rcases ho with ⟨z, _⟩ | ⟨_, hF⟩
    · exact absurd z (by omega)
    · refine sm_101 hV (sm_131 h0 ?_)
      rw [sm_e2 hf ht hV hF]
      exact sm_229g rfl hp
theorem sm_ce {post : Int32 → Prop} {L : Nat} {xs : Nat → Int32} {i : Nat} {p : Int32} (hL : L ≤ 6) (hi : p = nI i) (h6 : i < 6) (H : ∀ r, post r) : wpL_cellAt post L xs () p := by
  subst hi
  exact pk_le L i (fun _ => H 0) (fun z => ⟨pk_in i L z, H _⟩)
theorem i_vc (xs : Nat → Int32) (L : Nat) (hL : L ≤ 6) : wpL_law (fun r => r = 1) L xs := by
  unfold wpL_law
  refine sm_ce (i := 0) hL rfl (by omega) (fun r1 => sm_ce (i := 1) hL rfl (by omega) (fun r2 => sm_ce (i := 2) hL rfl (by omega) (fun r3 => sm_ce (i := 3) hL rfl (by omega) (fun r4 => sm_ce (i := 4) hL rfl (by omega) (fun r5 => sm_ce (i := 5) hL rfl (by omega) (fun r6 => ?_))))))
  exact ⟨60, 960, by omega, by omega, sm_lawOf rfl⟩
end
