section
/-! the pure picture -/
/-- the mark at a place of the label with blanks -/
def al_mk (lb : Nat → Nat) (s : Nat) : Nat := if s % 2 = 0 then 0 else lb (s / 2)
/-- a way can go from place r to place s -/
def al_ld (lb : Nat → Nat) (r s : Nat) : Bool := decide (s = r ∨ s = r + 1 ∨ (s = r + 2 ∧ s % 2 = 1 ∧ ¬ al_mk lb s = al_mk lb r))
/-- the label's array holds lb -/
def al_Lb (lb : Nat → Nat) (a2 : Nat → Int32) : Prop := ∀ k, k < 4 → a2 k = nI (lb k) ∧ lb k < 4
/-- weights as weightOf answers them -/
def al_Wt (V : Nat → Nat → Nat) (p : Int32) (a1 : Nat → Int32) : Prop := ∀ t m, t < 3 → m < 4 → (p = 0 → a1 (t * 4 + m) = nI (V t m)) ∧ (¬ p = 0 → V t m = 1)
def al_sum (f : Nat → Nat) : Nat → Nat
  | 0 => 0
  | n + 1 => al_sum f n + f n

theorem al_mk_lt {lb : Nat → Nat} {a2 : Nat → Int32} (hL : al_Lb lb a2) {s : Nat} (hs : s < 8) : al_mk lb s < 4 := by
  unfold al_mk
  split
  · omega
  · exact (hL (s / 2) (by omega)).2

theorem al_markAt {post : Int32 → Prop} {c z p : Int32} {a1 a2 a3 a4 a5 : Nat → Int32} {lb : Nat → Nat} {s : Nat} (hL : al_Lb lb a2) (hs : s < 8) (h : post (nI (al_mk lb s))) : wpX_markAt post (c, z, p, a1, a2, a3, a4, a5) (nI s) := by
  unfold wpX_markAt
  dsimp only
  have h1 : nI s &&& 1 = nI (s % 2 ^ 1) := pk_andN (by omega) 1 (by decide)
  have h2 : nI s >>> ((1 : Int32) &&& 31) = nI (s / 2 ^ 1) := pk_shrN (by omega) _ 1 (by decide)
  rw [h1, h2]
  by_cases e : s % 2 = 0
  · rw [show al_mk lb s = 0 from if_pos e] at h
    refine br_t ?_ h
    rw [show s % 2 ^ 1 = 0 from e]
    rfl
  · rw [show al_mk lb s = lb (s / 2) from if_neg e] at h
    refine br_f ?_ ⟨pk_in (s / 2 ^ 1) 4 (by omega), ?_⟩
    · rw [show s % 2 ^ 1 = 1 by omega]
      decide
    · rw [nI_clamp (by omega), show s / 2 ^ 1 = s / 2 by omega, (hL (s / 2) (by omega)).1]
      exact h

theorem al_weightOf {post : Int32 → Prop} {c z p : Int32} {a1 a2 a3 a4 a5 : Nat → Int32} {V : Nat → Nat → Nat} {t m : Nat} (hW : al_Wt V p a1) (ht : t < 3) (hm : m < 4) (h : post (nI (V t m))) : wpX_weightOf post (c, z, p, a1, a2, a3, a4, a5) (nI t) (nI m) := by
  unfold wpX_weightOf
  dsimp only
  have e : nI t * 4 + nI m = nI (t * 4 + m) := by
    rw [← nI_add, ← pk_mul]
    rfl
  rw [e]
  refine br_c (fun hp => ⟨pk_in (t * 4 + m) 24 (by omega), ?_⟩) (fun hp => ?_)
  · rw [nI_clamp (by omega), (hW t m ht hm).1 hp]
    exact h
  · rw [(hW t m ht hm).2 hp] at h
    exact h

theorem al_leads {post : Int32 → Prop} {c z p : Int32} {a1 a2 a3 a4 a5 : Nat → Int32} {lb : Nat → Nat} {r s : Nat} (hL : al_Lb lb a2) (hr : r < 8) (hs : s < 8) (h : post (if al_ld lb r s then 1 else 0)) : wpX_leads post (c, z, p, a1, a2, a3, a4, a5) (nI r) (nI s) := by
  unfold wpX_leads
  dsimp only
  have T : al_ld lb r s = true → post 1 := fun e => by
    rw [if_pos e] at h
    exact h
  have F : al_ld lb r s = false → post 0 := fun e => by
    rw [if_neg (by rw [e]; decide)] at h
    exact h
  refine pk_eq s r (fun e => T (decide_eq_true (Or.inl e))) (fun n1 => ?_)
  refine pk_eq s (r + 1) (fun e => T (decide_eq_true (Or.inr (Or.inl e)))) (fun n2 => ?_) rfl (nI_1 r)
  refine pk_eq s (r + 2) (fun n3 => ?_) (fun n3 => F (decide_eq_false (fun h => by rcases h with h | h | ⟨h, _, _⟩ <;> contradiction))) rfl (nI_add r 2)
  have h1 : nI s &&& 1 = nI (s % 2) := pk_andN (by omega) 1 (by decide)
  rw [h1]
  refine pk_eq (s % 2) 1 (fun e => ?_) (fun e => F (decide_eq_false (fun h => by rcases h with h | h | ⟨_, h, _⟩ <;> contradiction)))
  refine al_markAt hL hs (al_markAt hL hr ?_)
  have m1 := al_mk_lt hL hs
  have m2 := al_mk_lt hL hr
  exact pk_eq (al_mk lb s) (al_mk lb r) (fun e2 => F (decide_eq_false (fun h => by rcases h with h | h | ⟨_, _, h⟩ <;> contradiction))) (fun e2 => T (decide_eq_true (Or.inr (Or.inr ⟨n3, e, e2⟩)))) rfl rfl (by omega) (by omega)

theorem al_endsAt {post : Int32 → Prop} {c p : Int32} {a1 a2 a3 a4 a5 : Nat → Int32} {z s : Nat} (hz : z ≤ 3) (hs : s < 8) (h : post (if 2 * z ≤ s + 1 then 1 else 0)) : wpX_endsAt post (c, nI z, p, a1, a2, a3, a4, a5) (nI s) := by
  unfold wpX_endsAt
  dsimp only
  have e2 : (2 * nI z - 1 : Int32).toInt = ((2 * z : Nat) : Int) - ((1 : Nat) : Int) := by
    rw [show (2 * nI z : Int32) = nI (2 * z) from pk_mul 2 z]
    exact pk_sub_toInt (a := 2 * z) (b := 1) (by omega) (by decide)
  have key : (nI s < 2 * nI z - 1) ↔ s + 1 < 2 * z := by
    rw [Int32.lt_iff_toInt_lt, e2, nI_toInt (by omega)]
    omega
  refine ek_if key (fun e => ?_) (fun e => ?_)
  · rw [if_neg (by omega)] at h
    exact h
  · rw [if_pos (by omega)] at h
    exact h
theorem al_c9 (t s : Nat) : nI t * 9 + nI s = nI (t * 9 + s) := by
  rw [← nI_add, ← pk_mul]
  rfl
theorem al_c4 (t s : Nat) : nI t * 4 + nI s = nI (t * 4 + s) := by
  rw [← nI_add, ← pk_mul]
  rfl
theorem al_d2 (z : Nat) : (2 : Int32) * nI z = nI (2 * z) := pk_mul 2 z
end
section
def al_in (lb f : Nat → Nat) (s r : Nat) : Nat := if al_ld lb r s then f r else 0
def al_pre (lb f : Nat → Nat) (s : Nat) : Nat := (if 2 ≤ s then al_in lb f s (s - 2) else 0) + (if 1 ≤ s then al_in lb f s (s - 1) else 0) + al_in lb f s s
/-- upTo -/
def al_up (lb : Nat → Nat) (V : Nat → Nat → Nat) : Nat → Nat → Nat
  | 0, s => (if s ≤ 1 then 1 else 0) * V 0 (al_mk lb s)
  | t + 1, s => al_pre lb (al_up lb V t) s * V (t + 1) (al_mk lb s)
theorem al_up_eq (lb : Nat → Nat) (V : Nat → Nat → Nat) (t s : Nat) : al_up lb V t s = ((if t = 0 ∧ s ≤ 1 then 1 else 0) + if t = 0 then 0 else al_pre lb (al_up lb V (t - 1)) s) * V t (al_mk lb s) := by
  cases t with
  | zero => simp [al_up]
  | succ t => simp [al_up]

section
variable {post : St2 → Prop} {J2 J12 : Int32 → (Nat → Int32) → (Nat → Int32) → (Nat → Int32) → (Nat → Int32) → (Nat → Int32) → Prop} {J42 : Int32 → Int32 → Prop} {c z p : Int32} {a1 a2 a3 a4 a5 : Nat → Int32}
theorem al_71 {x1 x2 x3 x4 : Int32} (H : J42 x3 (x4 + 1)) : wX_carryOn_71 post J2 J12 J42 x1 x2 x3 x4 c z p a1 a2 a3 a4 a5 :=
  br_t rfl (nm_r (Int32.add_zero x3) (nm_e H))
theorem al_42n {t s n : Nat} {x3 x4 : Int32} (h1 : ¬ nI s < x4) (h2 : x4 < 0) (h : wX_carryOn_42 post J2 J12 (nI t) (nI s) c z p a1 a2 a3 a4 a5 n x3 (x4 + 1)) : wX_carryOn_42 post J2 J12 (nI t) (nI s) c z p a1 a2 a3 a4 a5 (n + 1) x3 x4 := by
  refine br_f h1 ?_
  by_cases t0 : nI t ≤ 0
  · exact br_t t0 (al_71 h)
  · exact br_f t0 (br_t h2 (al_71 h))
theorem al_42p {lb f : Nat → Nat} {t s r k n : Nat} (hL : al_Lb lb a2) (ht : t < 3) (hs : s < 8) (hr : r ≤ s) (row : 0 < t → a3 ((t - 1) * 9 + r) = nI (f r))
    (h : wX_carryOn_42 post J2 J12 (nI t) (nI s) c z p a1 a2 a3 a4 a5 n (nI (k + if t = 0 then 0 else al_in lb f s r)) (nI (r + 1))) :
    wX_carryOn_42 post J2 J12 (nI t) (nI s) c z p a1 a2 a3 a4 a5 (n + 1) (nI k) (nI r) := by
  refine pk_lt s r (fun e => absurd e (by omega)) (fun _ => ?_)
  by_cases t0 : t = 0
  · rw [if_pos t0, Nat.add_zero, ← nI_1 r] at h
    refine br_t ?_ (al_71 h)
    rw [t0]
    decide
  · rw [if_neg t0] at h
    refine br_f (nI_nle (by omega) (by omega)) (br_f (nI_pos (by omega)) (al_leads hL (by omega) hs ?_))
    unfold al_in at h
    cases e : al_ld lb r s with
    | false =>
      rw [if_neg (by rw [e]; decide), Nat.add_zero, ← nI_1 r] at h
      exact br_t (by decide) (al_71 h)
    | true =>
      rw [if_pos e] at h
      have ei : (nI t - 1) * 9 + nI r = nI ((t - 1) * 9 + r) := by
        rw [show nI t - 1 = nI (t - 1) from pk_sub (b := 1) (by omega)]
        exact al_c9 _ _
      refine br_f (by decide) (br_f (by decide) ⟨pk_in ((t - 1) * 9 + r) 54 (by omega) ei, nm_r ?_ (nm_r (nI_1 r) h)⟩)
      rw [ei, nI_clamp (by omega), row (by omega), nI_add]
theorem al_42x {lb : Nat → Nat} {V : Nat → Nat → Nat} {t s k n : Nat} (hL : al_Lb lb a2) (hW : al_Wt V p a1) (ht : t < 3) (hs : s < 8)
    (h : J12 (nI (s + 1)) a1 a2 (upd a3 (t * 9 + s) (nI (k * V t (al_mk lb s)))) a4 a5) :
    wX_carryOn_42 post J2 J12 (nI t) (nI s) c z p a1 a2 a3 a4 a5 (n + 1) (nI k) (nI (s + 1)) := by
  refine pk_lt s (s + 1) (fun _ => ?_) (fun e => absurd e (by omega))
  refine al_markAt hL hs (al_weightOf hW ht (al_mk_lt hL hs) ?_)
  exact ⟨pk_in (t * 9 + s) 54 (by omega) (al_c9 t s), nm_r (by rw [al_c9 t s, nI_clamp (by omega), pk_mul]) (nm_r (nI_1 s) h)⟩
theorem al_42 {lb f : Nat → Nat} {V : Nat → Nat → Nat} {t s i : Nat} (hL : al_Lb lb a2) (hW : al_Wt V p a1) (ht : t < 3) (hs : s < 8) (row : ∀ r, r ≤ s → 0 < t → a3 ((t - 1) * 9 + r) = nI (f r))
    (h : J12 (nI (s + 1)) a1 a2 (upd a3 (t * 9 + s) (nI ((i + if t = 0 then 0 else al_pre lb f s) * V t (al_mk lb s)))) a4 a5) :
    ∃ n, wX_carryOn_42 post J2 J12 (nI t) (nI s) c z p a1 a2 a3 a4 a5 n (nI i) (nI s - 2) := by
  refine ⟨4, ?_⟩
  by_cases h0 : s = 0
  · subst h0
    refine al_42n (by decide) (by decide) (al_42n (by decide) (by decide) ?_)
    rw [show nI 0 - 2 + 1 + 1 = nI 0 by decide]
    refine al_42p (f := f) hL ht hs (Nat.le_refl 0) (row 0 (Nat.le_refl 0)) (al_42x hL hW ht hs ?_)
    rw [show al_pre lb f 0 = al_in lb f 0 0 from Nat.zero_add _] at h
    exact h
  · by_cases h1 : s = 1
    · subst h1
      refine al_42n (by decide) (by decide) ?_
      rw [show nI 1 - 2 + 1 = nI 0 by decide]
      refine al_42p (f := f) hL ht hs (by omega) (row 0 (by omega)) (al_42p (f := f) hL ht hs (by omega) (row 1 (by omega)) (al_42x hL hW ht hs ?_))
      rw [show i + (if t = 0 then 0 else al_in lb f 1 0) + (if t = 0 then 0 else al_in lb f 1 1) = i + (if t = 0 then 0 else al_pre lb f 1) by
        rw [show al_pre lb f 1 = al_in lb f 1 0 + al_in lb f 1 1 from congrArg (· + al_in lb f 1 1) (Nat.zero_add _)]
        split <;> omega]
      exact h
    · rw [show nI s - 2 = nI (s - 2) from pk_sub (b := 2) (by omega)]
      refine al_42p (f := f) hL ht hs (by omega) (row _ (by omega)) ?_
      rw [show s - 2 + 1 = s - 1 by omega]
      refine al_42p (f := f) hL ht hs (by omega) (row _ (by omega)) ?_
      rw [show s - 1 + 1 = s by omega]
      refine al_42p (f := f) hL ht hs (by omega) (row _ (by omega)) (al_42x hL hW ht hs ?_)
      rw [show i + (if t = 0 then 0 else al_in lb f s (s - 2)) + (if t = 0 then 0 else al_in lb f s (s - 1)) + (if t = 0 then 0 else al_in lb f s s) = i + (if t = 0 then 0 else al_pre lb f s) by
        unfold al_pre
        rw [if_pos (show 2 ≤ s by omega), if_pos (show 1 ≤ s by omega)]
        split <;> omega]
      exact h
end
/-- rows of upTo below t stand -/
def al_Ru (lb : Nat → Nat) (V : Nat → Nat → Nat) (z t : Nat) (b : Nat → Int32) : Prop := ∀ t' s, t' < t → s ≤ 2 * z → b (t' * 9 + s) = nI (al_up lb V t' s)
theorem al_Ru_s {lb : Nat → Nat} {V : Nat → Nat → Nat} {z t i k : Nat} {b : Nat → Int32} (hz : z ≤ 3) (hi : i ≤ 2 * z) (hb : al_Ru lb V z t b ∧ ∀ s, s < i → b (t * 9 + s) = nI (al_up lb V t s))
    (hk : k = al_up lb V t i) :
    al_Ru lb V z t (upd b (t * 9 + i) (nI k)) ∧ ∀ s, s < i + 1 → upd b (t * 9 + i) (nI k) (t * 9 + s) = nI (al_up lb V t s) := by
  refine ⟨fun t' s ht' hs => ?_, fun s hs => ?_⟩
  · rw [pk_un (by omega)]
    exact hb.1 t' s ht' hs
  · by_cases e : s = i
    · rw [e, pk_us, hk]
    · rw [pk_un (by omega)]
      exact hb.2 s (by omega)
theorem al_12 {post : St2 → Prop} {J2 : Int32 → (Nat → Int32) → (Nat → Int32) → (Nat → Int32) → (Nat → Int32) → (Nat → Int32) → Prop} {p : Int32} {a1 a2 a3 a4 a5 : Nat → Int32} {lb : Nat → Nat} {V : Nat → Nat → Nat} {z t : Nat}
    (hz : z ≤ 3) (ht : t < 3) (hL : al_Lb lb a2) (hW : al_Wt V p a1) (rows : al_Ru lb V z t a3)
    (H : ∀ b, al_Ru lb V z (t + 1) b → J2 (nI (t + 1)) a1 a2 b a4 a5) :
    ∃ n, wX_carryOn_12 post J2 (nI t) (nI 3) (nI z) p n 0 a1 a2 a3 a4 a5 := by
  refine pk_loop (fun n i b => wX_carryOn_12 post J2 (nI t) (nI 3) (nI z) p n (nI i) a1 a2 b a4 a5) (fun i b => al_Ru lb V z t b ∧ ∀ s, s < i → b (t * 9 + s) = nI (al_up lb V t s)) (2 * z + 1) 0 a3 (by omega) ⟨rows, fun s hs => absurd hs (by omega)⟩ ?_ ?_
  · intro n b hb
    refine pk_lt (2 * z) (2 * z + 1) (fun _ => nm_r (nI_1 t) (H b (fun t' s h1 h2 => ?_))) (fun e => absurd e (by omega)) (al_d2 z)
    by_cases e : t' = t
    · rw [e]
      exact hb.2 s (by omega)
    · exact hb.1 t' s (by omega) h2
  · intro n i b hi hb hw
    have row : ∀ r, r ≤ i → 0 < t → b ((t - 1) * 9 + r) = nI (al_up lb V (t - 1) r) := fun r hr h0 => hb.1 (t - 1) r (by omega) (by omega)
    have hU := al_up_eq lb V t i
    refine pk_lt (2 * z) i (fun e => absurd e (by omega)) (fun _ => ?_) (al_d2 z)
    refine pk_eq t 0 (fun t0 => pk_lt 1 i (fun e1 => nm_e ?_) (fun e1 => nm_e ?_)) (fun t0 => nm_e ?_)
    · refine al_42 (i := 0) (f := al_up lb V (t - 1)) hL hW ht (by omega) row (hw _ (al_Ru_s hz (by omega) hb ?_))
      rw [hU, if_neg (show ¬ (t = 0 ∧ i ≤ 1) by omega)]
    · refine al_42 (i := 1) (f := al_up lb V (t - 1)) hL hW ht (by omega) row (hw _ (al_Ru_s hz (by omega) hb ?_))
      rw [hU, if_pos (show t = 0 ∧ i ≤ 1 by omega)]
    · refine al_42 (i := 0) (f := al_up lb V (t - 1)) hL hW ht (by omega) row (hw _ (al_Ru_s hz (by omega) hb ?_))
      rw [hU, if_neg (show ¬ (t = 0 ∧ i ≤ 1) by omega)]
theorem al_carryOn {post : St2 → Prop} {p : Int32} {a1 a2 a3 a4 a5 : Nat → Int32} {lb : Nat → Nat} {V : Nat → Nat → Nat} {z : Nat}
    (hz : z ≤ 3) (hL : al_Lb lb a2) (hW : al_Wt V p a1)
    (H : ∀ b, al_Ru lb V z 3 b → post (nI 3, nI z, p, a1, a2, b, a4, a5)) :
    wpX_carryOn post (nI 3, nI z, p, a1, a2, a3, a4, a5) := by
  unfold wpX_carryOn
  refine pk_loop (fun n i b => wX_carryOn_2 post (nI 3) (nI z) p n (nI i) a1 a2 b a4 a5) (fun i b => al_Ru lb V z i b) 3 0 a3 (by omega) (fun t' s h _ => absurd h (by omega)) ?_ ?_
  · intro n b hb
    exact pk_le 3 3 (fun _ => H b hb) (fun e => absurd e (by omega))
  · intro n i b hi hb hw
    exact pk_le 3 i (fun e => absurd e (by omega)) (fun _ => al_12 hz hi hL hW hb hw)
/-- total, paths -/
def al_tot (lb : Nat → Nat) (V : Nat → Nat → Nat) (z : Nat) : Nat := al_sum (fun s => if 2 * z ≤ s + 1 then al_up lb V 2 s else 0) (2 * z + 1)
theorem al_28 {post : Int32 → St2 → Prop} {p : Int32} {a1 a2 a3 a4 a5 : Nat → Int32} {lb : Nat → Nat} {V : Nat → Nat → Nat} {z : Nat} (hz : z ≤ 3) (hb : al_Ru lb V z 3 a3)
    (h : post (nI (al_tot lb V z)) (nI 3, nI z, p, a1, a2, a3, a4, a5)) :
    ∃ n, wX_sumAll_28 post (nI 3) (nI z) p a1 a2 a3 a4 a5 n 0 0 := by
  refine pk_loop (fun n i x => wX_sumAll_28 post (nI 3) (nI z) p a1 a2 a3 a4 a5 n x (nI i)) (fun i x => x = nI (al_sum (fun s => if 2 * z ≤ s + 1 then al_up lb V 2 s else 0) i)) (2 * z + 1) 0 0 (by omega) rfl ?_ ?_
  · intro n x hx
    refine pk_lt (2 * z) (2 * z + 1) (fun _ => ?_) (fun e => absurd e (by omega)) (al_d2 z)
    rw [hx]
    exact h
  · intro n i x hi hx hw
    refine pk_lt (2 * z) i (fun e => absurd e (by omega)) (fun _ => al_endsAt hz (by omega) ?_) (al_d2 z)
    have ei : (nI 3 - 1) * 9 + nI i = nI (2 * 9 + i) := by
      rw [show nI 3 - 1 = nI 2 by decide]
      exact al_c9 _ _
    by_cases c : 2 * z ≤ i + 1
    · rw [if_pos c]
      refine br_f (by decide) ⟨pk_in (2 * 9 + i) 54 (by omega) ei, nm_e (nm_r (nI_1 i) (hw _ ?_))⟩
      rw [ei, nI_clamp (by omega), hb 2 i (by omega) (by omega), hx, nI_add]
      show _ = nI (_ + if 2 * z ≤ i + 1 then _ else _)
      rw [if_pos c]
    · rw [if_neg c]
      refine br_t rfl (nm_e (nm_r (nI_1 i) (hw _ ?_)))
      rw [hx, Int32.add_zero]
      show _ = nI (_ + if 2 * z ≤ i + 1 then _ else _)
      rw [if_neg c]
      rfl
theorem al_sumAll {post : Int32 → St2 → Prop} {p : Int32} {a1 a2 a3 a4 a5 : Nat → Int32} {lb : Nat → Nat} {V : Nat → Nat → Nat} {z : Nat} (hz : z ≤ 3) (hL : al_Lb lb a2) (hW : al_Wt V p a1)
    (H : ∀ b, post (nI (al_tot lb V z)) (nI 3, nI z, p, a1, a2, b, a4, a5)) :
    wpX_sumAll post (nI 3, nI z, p, a1, a2, a3, a4, a5) := by
  unfold wpX_sumAll
  refine al_carryOn hz hL hW (fun b hb => ?_)
  exact br_f (by decide) (al_28 hz hb (H b))
theorem al_total {post : Int32 → St2 → Prop} {p : Int32} {a1 a2 a3 a4 a5 : Nat → Int32} {lb : Nat → Nat} {V : Nat → Nat → Nat} {z : Nat} (hz : z ≤ 3) (hL : al_Lb lb a2) (hW : al_Wt V 0 a1)
    (H : ∀ b, post (nI (al_tot lb V z)) (nI 3, nI z, 0, a1, a2, b, a4, a5)) :
    wpX_total post (nI 3, nI z, p, a1, a2, a3, a4, a5) := by
  unfold wpX_total
  exact al_sumAll hz hL hW H
theorem al_paths {post : Int32 → St2 → Prop} {p : Int32} {a1 a2 a3 a4 a5 : Nat → Int32} {lb : Nat → Nat} {z : Nat} (hz : z ≤ 3) (hL : al_Lb lb a2)
    (H : ∀ b, post (nI (al_tot lb (fun _ _ => 1) z)) (nI 3, nI z, 1, a1, a2, b, a4, a5)) :
    wpX_paths post (nI 3, nI z, p, a1, a2, a3, a4, a5) := by
  unfold wpX_paths
  refine al_sumAll hz hL (fun t m _ _ => ⟨fun e => absurd e (by decide), fun _ => rfl⟩) H
end
section
/-- -1 for none -/
def al_oI : Option Nat → Int32
  | none => -1
  | some v => nI v
theorem al_nle {n : Nat} (h : n < 2 ^ 31) : ¬ nI n ≤ -1 := by
  rw [Int32.le_iff_toInt_le, nI_toInt h, show (-1 : Int32).toInt = -1 by decide]
  omega
def al_mx (o : Option Nat) (w : Nat) (b : Option Nat) : Option Nat :=
  match b with
  | none => o
  | some v => match o with
    | none => some (w * v)
    | some u => if w * v ≤ u then some u else some (w * v)
def al_an (lb w f : Nat → Nat) (s : Nat) : Nat → Nat
  | 0 => 0
  | j + 1 => al_an lb w f s j + if al_ld lb s (s + j) then w (s + j) * f (s + j) else 0
def al_am (lb w : Nat → Nat) (f : Nat → Option Nat) (s : Nat) : Nat → Option Nat
  | 0 => none
  | j + 1 => if al_ld lb s (s + j) then al_mx (al_am lb w f s j) (w (s + j)) (f (s + j)) else al_am lb w f s j
/-- onward, k frames before the last -/
def al_on (lb : Nat → Nat) (V : Nat → Nat → Nat) (z : Nat) : Nat → Nat → Nat
  | 0, s => if 2 * z ≤ s + 1 then 1 else 0
  | k + 1, s => al_an lb (fun r => V (2 - k) (al_mk lb r)) (al_on lb V z k) s (min 3 (2 * z + 1 - s))
/-- bestOn, k frames before the last -/
def al_bo (lb : Nat → Nat) (V : Nat → Nat → Nat) (z : Nat) : Nat → Nat → Option Nat
  | 0, s => if 2 * z ≤ s + 1 then some 1 else none
  | k + 1, s => al_am lb (fun r => V (2 - k) (al_mk lb r)) (al_bo lb V z k) s (min 3 (2 * z + 1 - s))
theorem al_am_le {lb w : Nat → Nat} {f : Nat → Option Nat} {s B C : Nat} : ∀ j, (∀ i, i < j → w (s + i) ≤ C) → (∀ i v, i < j → f (s + i) = some v → v ≤ B) → ∀ u, al_am lb w f s j = some u → u ≤ C * B := by
  intro j
  induction j with
  | zero => intro _ _ u h; exact absurd h (by simp [al_am])
  | succ j ih =>
    intro hw hf u h
    have ih' := ih (fun i hi => hw i (by omega)) (fun i v hi => hf i v (by omega))
    unfold al_am at h
    split at h
    · unfold al_mx at h
      split at h
      · exact ih' u h
      · rename_i v hv
        have h1 : w (s + j) * v ≤ C * B := Nat.mul_le_mul (hw j (by omega)) (hf j v (by omega) hv)
        split at h
        · cases h
          exact h1
        · rename_i u' hu'
          split at h
          · cases h
            exact ih' u hu'
          · cases h
            exact h1
    · exact ih' u h
/-- weights are at most 8 -/
def al_V8 (V : Nat → Nat → Nat) : Prop := ∀ t m, t < 3 → m < 4 → V t m ≤ 8
theorem al_bo_le {lb : Nat → Nat} {a2 : Nat → Int32} {V : Nat → Nat → Nat} {z : Nat} (hL : al_Lb lb a2) (hV : al_V8 V) (hz : z ≤ 3) : ∀ k, k < 3 → ∀ s v, al_bo lb V z k s = some v → v ≤ 8 ^ k := by
  intro k
  induction k with
  | zero =>
    intro _ s v h
    unfold al_bo at h
    split at h
    · cases h
      exact Nat.le_refl 1
    · cases h
  | succ k ih =>
    intro hk s v h
    unfold al_bo at h
    have := al_am_le (lb := lb) (w := fun r => V (2 - k) (al_mk lb r)) (f := al_bo lb V z k) (s := s) (C := 8) (B := 8 ^ k) (min 3 (2 * z + 1 - s)) (fun i hi => hV _ _ (by omega) (al_mk_lt hL (by omega))) (fun i v _ hv => ih (by omega) _ v hv) v h
    rw [Nat.pow_succ]
    omega

section
variable {post : St2 → Prop} {J7 J13 : Int32 → (Nat → Int32) → (Nat → Int32) → (Nat → Int32) → (Nat → Int32) → (Nat → Int32) → Prop} {p : Int32} {a1 a2 a3 a4 a5 : Nat → Int32}
theorem al_205 {c z x3 x4 : Int32} {t s : Nat} (ht : t < 3) (hs : s < 8) (H : J13 (nI (s + 1)) a1 a2 a3 (upd a4 (t * 9 + s) x3) (upd a5 (t * 9 + s) x4)) :
    wX_carryBack_205 post J7 J13 (nI t) (nI s) x3 x4 c z p a1 a2 a3 a4 a5 := by
  have e : (nI t * 9 + nI s).toNatClampNeg = t * 9 + s := by rw [al_c9, nI_clamp (by omega)]
  exact ⟨pk_in (t * 9 + s) 54 (by omega) (al_c9 t s), nm_r (by rw [e]) ⟨pk_in (t * 9 + s) 54 (by omega) (al_c9 t s), nm_r (by rw [e]) (nm_r (nI_1 s) H)⟩⟩
theorem al_75e {z x3 x4 : Int32} {s : Nat} (hs : s < 8) (H : J13 (nI (s + 1)) a1 a2 a3 (upd a4 (2 * 9 + s) x3) (upd a5 (2 * 9 + s) x4)) :
    ∃ n, wX_carryBack_75 post J7 J13 (nI 2) (nI s) (nI 3) z p a1 a2 a3 a4 a5 n x3 x4 (nI s) :=
  ⟨1, br_t (by decide) (al_205 (by omega) hs H)⟩
theorem al_75 {lb f : Nat → Nat} {g : Nat → Option Nat} {V : Nat → Nat → Nat} {z t s : Nat} (hz : z ≤ 3) (ht : t < 2) (hs : s ≤ 2 * z) (hL : al_Lb lb a2) (hW : al_Wt V p a1) (hV : al_V8 V)
    (row4 : ∀ r, r ≤ 2 * z → a4 ((t + 1) * 9 + r) = nI (f r)) (row5 : ∀ r, r ≤ 2 * z → a5 ((t + 1) * 9 + r) = al_oI (g r)) (hg : ∀ r v, g r = some v → v ≤ 64)
    (H : J13 (nI (s + 1)) a1 a2 a3 (upd a4 (t * 9 + s) (nI (al_an lb (fun r => V (t + 1) (al_mk lb r)) f s (min 3 (2 * z + 1 - s))))) (upd a5 (t * 9 + s) (al_oI (al_am lb (fun r => V (t + 1) (al_mk lb r)) g s (min 3 (2 * z + 1 - s)))))) :
    ∃ n, wX_carryBack_75 post J7 J13 (nI t) (nI s) (nI 3) (nI z) p a1 a2 a3 a4 a5 n 0 (-1) (nI s) := by
  refine pk_loop (fun n i (q : Int32 × Int32) => wX_carryBack_75 post J7 J13 (nI t) (nI s) (nI 3) (nI z) p a1 a2 a3 a4 a5 n q.1 q.2 (nI (s + i)))
    (fun i q => q.1 = nI (al_an lb (fun r => V (t + 1) (al_mk lb r)) f s i) ∧ q.2 = al_oI (al_am lb (fun r => V (t + 1) (al_mk lb r)) g s i)) (min 3 (2 * z + 1 - s)) 0 (0, -1) (by omega) ⟨rfl, rfl⟩ ?_ ?_
  · intro n q hq
    have E : wX_carryBack_205 post J7 J13 (nI t) (nI s) q.1 q.2 (nI 3) (nI z) p a1 a2 a3 a4 a5 := by
      rw [hq.1, hq.2]
      exact al_205 (by omega) (by omega) H
    exact pk_le 2 t (fun e => absurd e (by omega)) (fun _ => pk_lt (s + 2) (s + min 3 (2 * z + 1 - s)) (fun _ => E) (fun _ => pk_lt (2 * z) (s + min 3 (2 * z + 1 - s)) (fun _ => E) (fun e => absurd e (by omega)) (al_d2 z)) (nI_add s 2)) (by decide)
  · intro n i q hi hq hw
    refine pk_le 2 t (fun e => absurd e (by omega)) (fun _ => pk_lt (s + 2) (s + i) (fun e => absurd e (by omega)) (fun _ => pk_lt (2 * z) (s + i) (fun e => absurd e (by omega)) (fun _ => al_leads hL (by omega) (by omega) ?_) (al_d2 z)) (nI_add s 2)) (by decide)
    rw [nI_1 t]
    have e6 : nI (t + 1) * 9 + nI (s + i) = nI ((t + 1) * 9 + (s + i)) := al_c9 _ _
    have c6 : (nI ((t + 1) * 9 + (s + i))).toNatClampNeg = (t + 1) * 9 + (s + i) := nI_clamp (by omega)
    have i6 : vp_in (nI ((t + 1) * 9 + (s + i))) 54 := vp_in_nI (by omega) (by omega)
    have r4 := row4 (s + i) (by omega)
    have r5 := row5 (s + i) (by omega)
    have hm := al_mk_lt hL (show s + i < 8 by omega)
    have hv8 := hV (t + 1) _ (by omega) hm
    by_cases e : al_ld lb s (s + i) = true
    · have n1 : al_an lb (fun r => V (t + 1) (al_mk lb r)) f s (i + 1) = al_an lb (fun r => V (t + 1) (al_mk lb r)) f s i + V (t + 1) (al_mk lb (s + i)) * f (s + i) := by
        show _ + (if al_ld lb s (s + i) then _ else _) = _
        rw [if_pos e]
      have n2 : al_am lb (fun r => V (t + 1) (al_mk lb r)) g s (i + 1) = al_mx (al_am lb (fun r => V (t + 1) (al_mk lb r)) g s i) (V (t + 1) (al_mk lb (s + i))) (g (s + i)) := by
        show (if al_ld lb s (s + i) then _ else _) = _
        rw [if_pos e]
      rw [if_pos e]
      have x3e : q.1 + nI (V (t + 1) (al_mk lb (s + i))) * a4 (nI ((t + 1) * 9 + (s + i))).toNatClampNeg = nI (al_an lb (fun r => V (t + 1) (al_mk lb r)) f s (i + 1)) := by
        rw [hq.1, c6, r4, pk_mul, nI_add, n1]
      refine br_f (by decide) (nm_r e6 (al_markAt hL (by omega) (al_weightOf hW (by omega) hm ⟨i6, nm_r x3e ⟨i6, ?_⟩⟩)))
      rw [c6, r5]
      cases hgr : g (s + i) with
      | none =>
        refine br_t (by decide) (nm_r (nI_1 (s + i)) (hw (_, _) ⟨rfl, ?_⟩))
        rw [n2, hgr]
        exact hq.2
      | some v =>
        have hv := hg _ _ hgr
        have hvv : V (t + 1) (al_mk lb (s + i)) * v ≤ 8 * 64 := Nat.mul_le_mul hv8 hv
        refine br_f (nI_pos (by omega)) ⟨i6, ?_⟩
        rw [show al_oI (some v) = nI v from rfl, pk_mul, hq.2]
        cases ho : al_am lb (fun r => V (t + 1) (al_mk lb r)) g s i with
        | none =>
          refine br_f (al_nle (by omega)) ⟨i6, nm_e (nm_r (nI_1 (s + i)) (hw (_, _) ⟨rfl, ?_⟩))⟩
          rw [n2, hgr, ho]
          rfl
        | some u =>
          have hu : u ≤ 8 * 64 := al_am_le (lb := lb) (w := fun r => V (t + 1) (al_mk lb r)) (f := g) (s := s) (C := 8) (B := 64) i (fun j hj => hV _ _ (by omega) (al_mk_lt hL (by omega))) (fun j v _ hv => hg _ v hv) u ho
          refine pk_le (V (t + 1) (al_mk lb (s + i)) * v) u (fun c => nm_r (nI_1 (s + i)) (hw (_, _) ⟨rfl, ?_⟩)) (fun c => ⟨i6, nm_e (nm_r (nI_1 (s + i)) (hw (_, _) ⟨rfl, ?_⟩))⟩)
          · rw [n2, hgr, ho]
            show _ = al_oI (if _ then _ else _)
            rw [if_pos c]
            rfl
          · rw [n2, hgr, ho]
            show _ = al_oI (if _ then _ else _)
            rw [if_neg (by omega)]
            rfl
    · have n1 : al_an lb (fun r => V (t + 1) (al_mk lb r)) f s (i + 1) = al_an lb (fun r => V (t + 1) (al_mk lb r)) f s i := by
        show _ + (if al_ld lb s (s + i) then _ else _) = _
        rw [if_neg e]
        rfl
      have n2 : al_am lb (fun r => V (t + 1) (al_mk lb r)) g s (i + 1) = al_am lb (fun r => V (t + 1) (al_mk lb r)) g s i := by
        show (if al_ld lb s (s + i) then _ else _) = _
        rw [if_neg e]
      rw [if_neg e]
      refine br_t rfl (nm_r (nI_1 (s + i)) (hw q ⟨?_, ?_⟩))
      · rw [n1]
        exact hq.1
      · rw [n2]
        exact hq.2
end
end
section
/-- row t of onward and bestOn stands -/
def al_Rb (lb : Nat → Nat) (V : Nat → Nat → Nat) (z t : Nat) (b4 b5 : Nat → Int32) : Prop := ∀ s, s ≤ 2 * z → b4 (t * 9 + s) = nI (al_on lb V z (2 - t) s) ∧ b5 (t * 9 + s) = al_oI (al_bo lb V z (2 - t) s)
theorem al_Rb_s {lb : Nat → Nat} {V : Nat → Nat → Nat} {z t i : Nat} {b4 b5 : Nat → Int32} {x3 x4 : Int32} (hz : z ≤ 3) (hi : i ≤ 2 * z)
    (hb : (∀ t', t < t' → t' < 3 → al_Rb lb V z t' b4 b5) ∧ ∀ s, s < i → b4 (t * 9 + s) = nI (al_on lb V z (2 - t) s) ∧ b5 (t * 9 + s) = al_oI (al_bo lb V z (2 - t) s))
    (h3 : x3 = nI (al_on lb V z (2 - t) i)) (h4 : x4 = al_oI (al_bo lb V z (2 - t) i)) :
    (∀ t', t < t' → t' < 3 → al_Rb lb V z t' (upd b4 (t * 9 + i) x3) (upd b5 (t * 9 + i) x4)) ∧ ∀ s, s < i + 1 → upd b4 (t * 9 + i) x3 (t * 9 + s) = nI (al_on lb V z (2 - t) s) ∧ upd b5 (t * 9 + i) x4 (t * 9 + s) = al_oI (al_bo lb V z (2 - t) s) := by
  refine ⟨fun t' h1 h2 s hs => ?_, fun s hs => ?_⟩
  · rw [pk_un (by omega), pk_un (by omega)]
    exact hb.1 t' h1 h2 s hs
  · by_cases e : s = i
    · rw [e, pk_us, pk_us]
      exact ⟨h3, h4⟩
    · rw [pk_un (by omega), pk_un (by omega)]
      exact hb.2 s (by omega)
theorem al_13 {post : St2 → Prop} {J7 : Int32 → (Nat → Int32) → (Nat → Int32) → (Nat → Int32) → (Nat → Int32) → (Nat → Int32) → Prop} {p : Int32} {a1 a2 a3 a4 a5 : Nat → Int32} {lb : Nat → Nat} {V : Nat → Nat → Nat} {z t : Nat}
    (hz : z ≤ 3) (ht : t < 3) (hL : al_Lb lb a2) (hW : al_Wt V p a1) (hV : al_V8 V) (rows : ∀ t', t < t' → t' < 3 → al_Rb lb V z t' a4 a5)
    (H : ∀ b4 b5, (∀ t', t ≤ t' → t' < 3 → al_Rb lb V z t' b4 b5) → J7 (nI t + (-1)) a1 a2 a3 b4 b5) :
    ∃ n, wX_carryBack_13 post J7 (nI t) (nI 3) (nI z) p n 0 a1 a2 a3 a4 a5 := by
  refine pk_loop (fun n i (q : (Nat → Int32) × (Nat → Int32)) => wX_carryBack_13 post J7 (nI t) (nI 3) (nI z) p n (nI i) a1 a2 a3 q.1 q.2)
    (fun i q => (∀ t', t < t' → t' < 3 → al_Rb lb V z t' q.1 q.2) ∧ ∀ s, s < i → q.1 (t * 9 + s) = nI (al_on lb V z (2 - t) s) ∧ q.2 (t * 9 + s) = al_oI (al_bo lb V z (2 - t) s)) (2 * z + 1) 0 (a4, a5) (by omega) ⟨rows, fun s hs => absurd hs (by omega)⟩ ?_ ?_
  · intro n q hq
    refine pk_lt (2 * z) (2 * z + 1) (fun _ => nm_e (H q.1 q.2 (fun t' h1 h2 => ?_))) (fun e => absurd e (by omega)) (al_d2 z)
    by_cases e : t' = t
    · rw [e]
      exact fun s hs => hq.2 s (by omega)
    · exact hq.1 t' (by omega) h2
  · intro n i q hi hq hw
    refine pk_lt (2 * z) i (fun e => absurd e (by omega)) (fun _ => ?_) (al_d2 z)
    have e2 : nI 3 - 1 = nI 2 := by decide
    refine pk_eq t 2 (fun e => ?_) (fun e => ?_) rfl e2
    · subst e
      refine al_endsAt hz (by omega) ?_
      by_cases c : 2 * z ≤ i + 1
      · rw [if_pos c]
        refine br_f (by decide) (br_t e2.symm (al_endsAt hz (by omega) ?_))
        rw [if_pos c]
        refine br_f (by decide) (al_75e (by omega) (hw (_, _) (al_Rb_s hz (by omega) hq ?_ ?_)))
        · show _ = nI (if _ then _ else _)
          rw [if_pos c]
          rfl
        · show _ = al_oI (if _ then _ else _)
          rw [if_pos c]
          rfl
      · rw [if_neg c]
        refine br_t rfl (br_t e2.symm (al_endsAt hz (by omega) ?_))
        rw [if_neg c]
        refine br_t rfl (al_75e (by omega) (hw (_, _) (al_Rb_s hz (by omega) hq ?_ ?_)))
        · show _ = nI (if _ then _ else _)
          rw [if_neg c]
          rfl
        · show _ = al_oI (if _ then _ else _)
          rw [if_neg c]
          rfl
    · have r1 := hq.1 (t + 1) (by omega) (by omega)
      have k1 : 2 - (t + 1) + 1 = 2 - t := by omega
      have k2 : 2 - (2 - (t + 1)) = t + 1 := by omega
      refine br_f (by rw [e2, nI_eq (by omega) (by omega)]; exact e) (al_75 (f := al_on lb V z (2 - (t + 1))) (g := al_bo lb V z (2 - (t + 1))) hz (by omega) (by omega) hL hW hV (fun r hr => (r1 r hr).1) (fun r hr => (r1 r hr).2) ?_ (hw (_, _) (al_Rb_s hz (by omega) hq ?_ ?_)))
      · intro r v hv
        have h1 := al_bo_le hL hV hz (2 - (t + 1)) (by omega) r v hv
        have h2 : 8 ^ (2 - (t + 1)) ≤ 8 ^ 2 := Nat.pow_le_pow_right (by omega) (by omega)
        omega
      · rw [← k1]
        show _ = nI (al_an lb (fun r => V (2 - (2 - (t + 1))) (al_mk lb r)) _ _ _)
        rw [k2]
      · rw [← k1]
        show _ = al_oI (al_am lb (fun r => V (2 - (2 - (t + 1))) (al_mk lb r)) _ _ _)
        rw [k2]
theorem al_carryBack {post : St2 → Prop} {p : Int32} {a1 a2 a3 a4 a5 : Nat → Int32} {lb : Nat → Nat} {V : Nat → Nat → Nat} {z : Nat}
    (hz : z ≤ 3) (hL : al_Lb lb a2) (hW : al_Wt V p a1) (hV : al_V8 V)
    (H : ∀ b4 b5, (∀ t, t < 3 → al_Rb lb V z t b4 b5) → post (nI 3, nI z, p, a1, a2, a3, b4, b5)) :
    wpX_carryBack post (nI 3, nI z, p, a1, a2, a3, a4, a5) := by
  unfold wpX_carryBack
  refine nm_r (show nI 3 - 1 = nI 2 by decide) ⟨4, ?_⟩
  refine br_f (by decide) (al_13 hz (by omega) hL hW hV (fun t' h1 h2 => absurd h1 (by omega)) (fun b4 b5 hb => ?_))
  rw [show nI 2 + (-1) = nI 1 by decide]
  refine br_f (by decide) (al_13 hz (by omega) hL hW hV (fun t' h1 h2 => hb t' (by omega) h2) (fun b4 b5 hb => ?_))
  rw [show nI 1 + (-1) = nI 0 by decide]
  refine br_f (by decide) (al_13 hz (by omega) hL hW hV (fun t' h1 h2 => hb t' (by omega) h2) (fun b4 b5 hb => ?_))
  exact br_t (by decide) (H b4 b5 (fun t ht => hb t (by omega) ht))
end
section
theorem al_m1le {n : Nat} (h : n < 2 ^ 31) : (-1 : Int32) ≤ nI n := by
  rw [Int32.le_iff_toInt_le, nI_toInt h, show (-1 : Int32).toInt = -1 by decide]
  omega
/-- bestFrom -/
def al_bf (lb : Nat → Nat) (V : Nat → Nat → Nat) (z s : Nat) : Option Nat :=
  match al_bo lb V z 2 s with
  | none => none
  | some v => some (v * V 0 (al_mk lb s))
/-- the greater of two -/
def al_o2 (a b : Option Nat) : Option Nat :=
  match b with
  | none => a
  | some v => match a with
    | none => some v
    | some u => if v ≤ u then some u else some v
/-- greatest -/
def al_gr (lb : Nat → Nat) (V : Nat → Nat → Nat) (z : Nat) : Option Nat := if z = 0 then al_bf lb V z 0 else al_o2 (al_bf lb V z 0) (al_bf lb V z 1)
theorem al_bf_le {lb : Nat → Nat} {a2 : Nat → Int32} {V : Nat → Nat → Nat} {z s v : Nat} (hL : al_Lb lb a2) (hV : al_V8 V) (hz : z ≤ 3) (hs : s < 8) (h : al_bf lb V z s = some v) : v ≤ 512 := by
  unfold al_bf at h
  cases e : al_bo lb V z 2 s with
  | none =>
    rw [e] at h
    cases h
  | some u =>
    rw [e] at h
    cases h
    have h1 := al_bo_le hL hV hz 2 (by omega) s u e
    have h2 := hV 0 _ (by omega) (al_mk_lt hL hs)
    exact Nat.mul_le_mul h1 h2
theorem al_bestFrom {post : Int32 → Prop} {c : Int32} {a1 a2 a3 a4 a5 : Nat → Int32} {lb : Nat → Nat} {V : Nat → Nat → Nat} {z s : Nat} (hz : z ≤ 3) (hs : s ≤ 2 * z) (hL : al_Lb lb a2) (hW : al_Wt V 0 a1) (hV : al_V8 V) (hb : al_Rb lb V z 0 a4 a5)
    (h : post (al_oI (al_bf lb V z s))) : wpX_bestFrom post (c, nI z, 0, a1, a2, a3, a4, a5) (nI s) := by
  unfold wpX_bestFrom
  have hi : vp_in (nI s) 54 := vp_in_nI (by omega) (by omega)
  have r5 := (hb s hs).2
  rw [show 0 * 9 + s = s by omega] at r5
  refine al_markAt hL (by omega) ⟨hi, ?_⟩
  rw [nI_clamp (by omega), r5]
  unfold al_bf at h
  cases e : al_bo lb V z (2 - 0) s with
  | none =>
    rw [show al_bo lb V z 2 s = none from e] at h
    exact br_f (by decide) h
  | some v =>
    rw [show al_bo lb V z 2 s = some v from e] at h
    have hv := al_bo_le hL hV hz 2 (by omega) s v e
    refine br_t (nI_pos' (by omega)) ⟨hi, al_weightOf (t := 0) hW (by omega) (al_mk_lt hL (by omega)) ?_⟩
    show post (nI v * nI _)
    rw [pk_mul]
    exact h
theorem al_greatest {post : Int32 → St2 → Prop} {p : Int32} {a1 a2 a3 a4 a5 : Nat → Int32} {lb : Nat → Nat} {V : Nat → Nat → Nat} {z : Nat} (hz : z ≤ 3) (hL : al_Lb lb a2) (hW : al_Wt V 0 a1) (hV : al_V8 V)
    (H : ∀ b4 b5, (∀ t, t < 3 → al_Rb lb V z t b4 b5) → post (al_oI (al_gr lb V z)) (nI 3, nI z, 0, a1, a2, a3, b4, b5)) :
    wpX_greatest post (nI 3, nI z, p, a1, a2, a3, a4, a5) := by
  unfold wpX_greatest
  refine br_f (by decide) (al_carryBack hz hL hW hV (fun b4 b5 hb => ?_))
  have h' := H b4 b5 hb
  unfold al_gr at h'
  refine al_bestFrom (s := 0) hz (by omega) hL hW hV (hb 0 (by omega)) ?_
  refine pk_le z 0 (fun e => ?_) (fun e => al_bestFrom (s := 1) hz (by omega) hL hW hV (hb 0 (by omega)) ?_)
  · rw [if_pos (show z = 0 by omega)] at h'
    refine br_t ?_ h'
    cases e : al_bf lb V z 0 with
    | none => decide
    | some v =>
      have := al_bf_le hL hV hz (by omega) e
      exact al_m1le (by omega)
  · rw [if_neg (show ¬ z = 0 by omega)] at h'
    cases e1 : al_bf lb V z 1 with
    | none =>
      rw [e1] at h'
      refine br_t ?_ h'
      cases e0 : al_bf lb V z 0 with
      | none => decide
      | some v =>
        have := al_bf_le hL hV hz (by omega) e0
        exact al_m1le (by omega)
    | some v =>
      rw [e1] at h'
      have hv := al_bf_le hL hV hz (by omega) e1
      cases e0 : al_bf lb V z 0 with
      | none =>
        rw [e0] at h'
        exact br_f (al_nle (by omega)) h'
      | some u =>
        rw [e0] at h'
        have hu := al_bf_le hL hV hz (by omega) e0
        have h2 : post (al_oI (if v ≤ u then some u else some v)) (nI 3, nI z, 0, a1, a2, a3, b4, b5) := h'
        refine pk_le v u (fun c => ?_) (fun c => ?_)
        · rw [if_pos c] at h2
          exact h2
        · rw [if_neg (by omega)] at h2
          exact h2
theorem al_gr_le {lb : Nat → Nat} {a2 : Nat → Int32} {V : Nat → Nat → Nat} {z v : Nat} (hL : al_Lb lb a2) (hV : al_V8 V) (hz : z ≤ 3) (h : al_gr lb V z = some v) : v ≤ 512 := by
  unfold al_gr at h
  split at h
  · exact al_bf_le hL hV hz (by omega) h
  · unfold al_o2 at h
    split at h
    · exact al_bf_le hL hV hz (by omega) h
    · rename_i u hu
      have h1 := al_bf_le hL hV hz (by omega) hu
      split at h
      · cases h
        exact h1
      · rename_i w hw
        have h2 := al_bf_le hL hV hz (by omega) hw
        split at h <;> cases h <;> assumption
theorem al_best {post : Int32 → St2 → Prop} {p : Int32} {a1 a2 a3 a4 a5 : Nat → Int32} {lb : Nat → Nat} {V : Nat → Nat → Nat} {z : Nat} (hz : z ≤ 3) (hL : al_Lb lb a2) (hW : al_Wt V 0 a1) (hV : al_V8 V)
    (H : ∀ b4 b5, post (nI ((al_gr lb V z).getD 0)) (nI 3, nI z, 0, a1, a2, a3, b4, b5)) :
    wpX_best post (nI 3, nI z, p, a1, a2, a3, a4, a5) := by
  unfold wpX_best
  refine al_greatest hz hL hW hV (fun b4 b5 hb => ?_)
  have h' := H b4 b5
  cases e : al_gr lb V z with
  | none =>
    rw [e] at h'
    exact br_f (by decide) h'
  | some v =>
    rw [e] at h'
    have := al_gr_le hL hV hz e
    exact br_t (nI_pos' (by omega)) h'
/-- through -/
def al_thr (lb : Nat → Nat) (V : Nat → Nat → Nat) (z t m : Nat) : Nat := al_sum (fun s => if al_mk lb s = m then al_up lb V t s * al_on lb V z (2 - t) s else 0) (2 * z + 1)
theorem al_35 {post : Int32 → St2 → Prop} {p : Int32} {a1 a2 a3 a4 a5 : Nat → Int32} {lb : Nat → Nat} {V : Nat → Nat → Nat} {z t m : Nat} (hz : z ≤ 3) (ht : t < 3) (hm : m < 4) (hL : al_Lb lb a2) (hb : al_Ru lb V z 3 a3) (hc : al_Rb lb V z t a4 a5)
    (h : post (nI (al_thr lb V z t m)) (nI 3, nI z, p, a1, a2, a3, a4, a5)) :
    ∃ n, wX_through_35 post (nI t) (nI m) (nI 3) (nI z) p a1 a2 a3 a4 a5 n 0 0 := by
  refine pk_loop (fun n i x => wX_through_35 post (nI t) (nI m) (nI 3) (nI z) p a1 a2 a3 a4 a5 n x (nI i)) (fun i x => x = nI (al_sum (fun s => if al_mk lb s = m then al_up lb V t s * al_on lb V z (2 - t) s else 0) i)) (2 * z + 1) 0 0 (by omega) rfl ?_ ?_
  · intro n x hx
    refine pk_lt (2 * z) (2 * z + 1) (fun _ => ?_) (fun e => absurd e (by omega)) (al_d2 z)
    rw [hx]
    exact h
  · intro n i x hi hx hw
    have hk := al_mk_lt hL (show i < 8 by omega)
    refine pk_lt (2 * z) i (fun e => absurd e (by omega)) (fun _ => al_markAt hL (by omega) ?_) (al_d2 z)
    have ei := al_c9 t i
    refine pk_eq (al_mk lb i) m (fun c => ⟨pk_in (t * 9 + i) 54 (by omega) ei, pk_in (t * 9 + i) 54 (by omega) ei, nm_e (nm_r (nI_1 i) (hw _ ?_))⟩) (fun c => nm_e (nm_r (nI_1 i) (hw _ ?_)))
    · rw [ei, nI_clamp (by omega), hb t i ht (by omega), (hc i (by omega)).1, hx, pk_mul, nI_add]
      show _ = nI (_ + if al_mk lb i = m then _ else _)
      rw [if_pos c]
    · rw [hx, Int32.add_zero]
      show _ = nI (_ + if al_mk lb i = m then _ else _)
      rw [if_neg c]
      rfl
theorem al_isFrame {post : Int32 → Prop} {z p : Int32} {a1 a2 a3 a4 a5 : Nat → Int32} {t : Nat} (ht : t < 3) (h : post 1) : wpX_isFrame post (nI 3, z, p, a1, a2, a3, a4, a5) (nI t) := by
  unfold wpX_isFrame
  exact br_f (nI_pos (by omega)) (pk_le 3 t (fun e => absurd e (by omega)) (fun _ => h))
theorem al_isMark {post : Int32 → Prop} {m : Nat} (hm : m < 4) (h : post 1) : wpX_isMark post () (nI m) :=
  br_f (nI_pos (by omega)) (pk_le 4 m (fun e => absurd e (by omega)) (fun _ => h))
theorem al_through {post : Int32 → St2 → Prop} {p : Int32} {a1 a2 a3 a4 a5 : Nat → Int32} {lb : Nat → Nat} {V : Nat → Nat → Nat} {z t m : Nat} (hz : z ≤ 3) (ht : t < 3) (hm : m < 4) (hL : al_Lb lb a2) (hW : al_Wt V 0 a1) (hV : al_V8 V)
    (H : ∀ b3 b4 b5, post (nI (al_thr lb V z t m)) (nI 3, nI z, 0, a1, a2, b3, b4, b5)) :
    wpX_through post (nI 3, nI z, p, a1, a2, a3, a4, a5) (nI t) (nI m) := by
  unfold wpX_through
  refine al_isFrame ht (br_f (by decide) (al_isMark hm (br_f (by decide) (al_carryOn hz hL hW (fun b3 h3 => ?_)))))
  refine al_carryBack hz hL hW hV (fun b4 b5 hb => ?_)
  exact al_35 hz ht hm hL h3 (hb t ht) (H b3 b4 b5)
end
section
def al_prod (f : Nat → Nat) : Nat → Nat
  | 0 => 1
  | n + 1 => al_prod f n * f n
/-- frameSum -/
def al_fs (V : Nat → Nat → Nat) (t : Nat) : Nat := al_sum (V t) 4
theorem al_frameSum {post : Int32 → Prop} {c z p : Int32} {a1 a2 a3 a4 a5 : Nat → Int32} {V : Nat → Nat → Nat} {t : Nat} (ht : t < 3) (hW : al_Wt V 0 a1) (h : post (nI (al_fs V t))) :
    wpX_frameSum post (c, z, p, a1, a2, a3, a4, a5) (nI t) := by
  unfold wpX_frameSum
  refine pk_loop (fun n i x => wX_frameSum_4 post (nI t) c z p a1 a2 a3 a4 a5 n x (nI i)) (fun i x => x = nI (al_sum (V t) i)) 4 0 0 (by omega) rfl ?_ ?_
  · intro n x hx
    refine pk_le 4 4 (fun _ => ?_) (fun e => absurd e (by omega))
    rw [hx]
    exact h
  · intro n i x hi hx hw
    have ei := al_c4 t i
    refine pk_le 4 i (fun e => absurd e (by omega)) (fun _ => ⟨pk_in (t * 4 + i) 24 (by omega) ei, nm_e (nm_r (nI_1 i) (hw _ ?_))⟩)
    rw [ei, nI_clamp (by omega), (hW t i ht hi).1 rfl, hx, nI_add]
    rfl
theorem al_everything {post : Int32 → Prop} {z p : Int32} {a1 a2 a3 a4 a5 : Nat → Int32} {V : Nat → Nat → Nat} (hW : al_Wt V 0 a1) (h : post (nI (al_prod (al_fs V) 3))) :
    wpX_everything post (nI 3, z, p, a1, a2, a3, a4, a5) := by
  unfold wpX_everything
  refine pk_loop (fun n i x => wX_everything_4 post (nI 3) z p a1 a2 a3 a4 a5 n x (nI i)) (fun i x => x = nI (al_prod (al_fs V) i)) 3 0 1 (by omega) rfl ?_ ?_
  · intro n x hx
    refine pk_le 3 3 (fun _ => ?_) (fun e => absurd e (by omega))
    rw [hx]
    exact h
  · intro n i x hi hx hw
    refine pk_le 3 i (fun e => absurd e (by omega)) (fun _ => al_frameSum hi hW (nm_e (nm_r (nI_1 i) (hw _ ?_))))
    rw [hx, pk_mul]
    rfl
/-- a product carried on over the frames behind t -/
def al_pr (V : Nat → Nat → Nat) (x t : Nat) : Nat → Nat
  | 0 => x
  | j + 1 => al_pr V x t j * al_fs V (t + 1 + j)
/-- ways that come to the label's last mark at frame t for the first time -/
def al_fi (lb : Nat → Nat) (V : Nat → Nat → Nat) (z t : Nat) : Nat := (if t = 0 ∧ z = 1 then 1 else 0) + if t = 0 then 0 else (if 2 ≤ z then al_in lb (al_up lb V (t - 1)) (2 * z - 1) (2 * z - 3) else 0) + al_in lb (al_up lb V (t - 1)) (2 * z - 1) (2 * z - 2)
def al_pt (lb : Nat → Nat) (V : Nat → Nat → Nat) (z t : Nat) : Nat := al_pr V (al_fi lb V z t * V t (al_mk lb (2 * z - 1))) t (2 - t)
/-- what the method answers for a label that is begun -/
def al_pref (lb : Nat → Nat) (V : Nat → Nat → Nat) (z : Nat) : Nat := if z = 0 then al_prod (al_fs V) 3 else al_sum (al_pt lb V z) 3
section
variable {post : Int32 → St2 → Prop} {J41 J72 : Int32 → Int32 → Prop} {c z p : Int32} {a1 a2 a3 a4 a5 : Nat → Int32}
theorem al_102 {x1 x2 x3 x4 x5 x6 : Int32} (H : J72 x5 (x6 + 1)) : wX_prefix_102 post J41 J72 x1 x2 x3 x4 x5 x6 c z p a1 a2 a3 a4 a5 :=
  br_t rfl (nm_r (Int32.add_zero x5) (nm_e H))
theorem al_158 {V : Nat → Nat → Nat} {x1 x2 : Int32} {t w x : Nat} (ht : t < 3) (hW : al_Wt V 0 a1) (H : J41 (nI (w + al_pr V x t (2 - t))) (nI (t + 1))) :
    ∃ n, wX_prefix_158 post J41 x1 x2 (nI w) (nI t) (nI 3) z p a1 a2 a3 a4 a5 n (nI x) (nI (t + 1)) := by
  refine pk_loop (fun n i x => wX_prefix_158 post J41 x1 x2 (nI w) (nI t) (nI 3) z p a1 a2 a3 a4 a5 n x (nI i)) (fun i y => y = nI (al_pr V x t (i - (t + 1))) ∧ t + 1 ≤ i) 3 (t + 1) (nI x) (by omega) ⟨by rw [Nat.sub_self]; rfl, Nat.le_refl _⟩ ?_ ?_
  · intro n y hy
    refine pk_le 3 3 (fun _ => nm_r (e' := nI (w + al_pr V x t (2 - t))) ?_ (nm_r (nI_1 t) H)) (fun e => absurd e (by omega))
    rw [hy.1, nI_add, show 3 - (t + 1) = 2 - t by omega]
  · intro n i y hi hy hw
    refine pk_le 3 i (fun e => absurd e (by omega)) (fun _ => al_frameSum hi hW (nm_e (nm_r (nI_1 i) (hw _ ⟨?_, by omega⟩))))
    rw [hy.1, pk_mul, show i + 1 - (t + 1) = (i - (t + 1)) + 1 by omega]
    show _ = nI (_ * al_fs V (t + 1 + (i - (t + 1))))
    rw [show t + 1 + (i - (t + 1)) = i by omega]
theorem al_72x {V : Nat → Nat → Nat} {t w x l m n : Nat} (ht : t < 3) (hm : m < 4) (hl : l < 8) (hW : al_Wt V 0 a1) (H : J41 (nI (w + al_pr V (x * V t m) t (2 - t))) (nI (t + 1))) :
    wX_prefix_72 post J41 (nI l) (nI m) (nI w) (nI t) (nI 3) z 0 a1 a2 a3 a4 a5 (n + 1) (nI x) (nI l) := by
  refine pk_le l l (fun _ => al_weightOf hW ht hm ?_) (fun e => absurd e (by omega))
  exact nm_r (pk_mul _ _) (nm_r (nI_1 t) (al_158 ht hW H))
theorem al_72n {x2 x3 : Int32} {t l n : Nat} {x5 x6 : Int32} (h1 : ¬ nI l ≤ x6) (h2 : x6 < 0) (h : wX_prefix_72 post J41 (nI l) x2 x3 (nI t) c z p a1 a2 a3 a4 a5 n x5 (x6 + 1)) : wX_prefix_72 post J41 (nI l) x2 x3 (nI t) c z p a1 a2 a3 a4 a5 (n + 1) x5 x6 := by
  refine br_f h1 ?_
  by_cases t0 : nI t ≤ 0
  · exact br_t t0 (al_102 h)
  · exact br_f t0 (br_t h2 (al_102 h))
theorem al_72p {lb f : Nat → Nat} {x2 x3 : Int32} {t l r k n : Nat} (hL : al_Lb lb a2) (ht : t < 3) (hl : l < 8) (hr : r < l) (row : 0 < t → a3 ((t - 1) * 9 + r) = nI (f r))
    (h : wX_prefix_72 post J41 (nI l) x2 x3 (nI t) c z p a1 a2 a3 a4 a5 n (nI (k + if t = 0 then 0 else al_in lb f l r)) (nI (r + 1))) :
    wX_prefix_72 post J41 (nI l) x2 x3 (nI t) c z p a1 a2 a3 a4 a5 (n + 1) (nI k) (nI r) := by
  refine pk_le l r (fun e => absurd e (by omega)) (fun _ => ?_)
  by_cases t0 : t = 0
  · rw [if_pos t0, Nat.add_zero, ← nI_1 r] at h
    refine br_t ?_ (al_102 h)
    rw [t0]
    decide
  · rw [if_neg t0] at h
    refine br_f (nI_nle (by omega) (by omega)) (br_f (nI_pos (by omega)) (al_leads hL (by omega) hl ?_))
    unfold al_in at h
    cases e : al_ld lb r l with
    | false =>
      rw [if_neg (by rw [e]; decide), Nat.add_zero, ← nI_1 r] at h
      exact br_t (by decide) (al_102 h)
    | true =>
      rw [if_pos e] at h
      have ei : (nI t - 1) * 9 + nI r = nI ((t - 1) * 9 + r) := by
        rw [show nI t - 1 = nI (t - 1) from pk_sub (b := 1) (by omega)]
        exact al_c9 _ _
      refine br_f (by decide) (br_f (by decide) ⟨pk_in ((t - 1) * 9 + r) 54 (by omega) ei, nm_r ?_ (nm_r (nI_1 r) h)⟩)
      rw [ei, nI_clamp (by omega), row (by omega), nI_add]
end
theorem al_72 {post : Int32 → St2 → Prop} {J41 : Int32 → Int32 → Prop} {a1 a2 a3 a4 a5 : Nat → Int32} {lb f : Nat → Nat} {V : Nat → Nat → Nat} {z t w i : Nat} (hz : z ≤ 3) (h0 : 0 < z) (ht : t < 3) (hL : al_Lb lb a2) (hW : al_Wt V 0 a1)
    (row : ∀ r, r ≤ 2 * z → 0 < t → a3 ((t - 1) * 9 + r) = nI (f r))
    (H : J41 (nI (w + al_pr V ((i + if t = 0 then 0 else (if 2 ≤ z then al_in lb f (2 * z - 1) (2 * z - 3) else 0) + al_in lb f (2 * z - 1) (2 * z - 2)) * V t (al_mk lb (2 * z - 1))) t (2 - t))) (nI (t + 1))) :
    ∃ n, wX_prefix_72 post J41 (nI (2 * z - 1)) (nI (al_mk lb (2 * z - 1))) (nI w) (nI t) (nI 3) (nI z) 0 a1 a2 a3 a4 a5 n (nI i) (nI (2 * z - 1) - 2) := by
  refine ⟨3, ?_⟩
  have hm := al_mk_lt hL (show 2 * z - 1 < 8 by omega)
  by_cases h1 : z = 1
  · subst h1
    refine al_72n (by decide) (by decide) ?_
    rw [show nI (2 * 1 - 1) - 2 + 1 = nI (2 * 1 - 2) by decide]
    refine al_72p (f := f) hL ht (by omega) (by omega) (row _ (by omega)) (al_72x ht hm (by omega) hW ?_)
    rw [show (if 2 ≤ 1 then al_in lb f (2 * 1 - 1) (2 * 1 - 3) else 0) + al_in lb f (2 * 1 - 1) (2 * 1 - 2) = al_in lb f (2 * 1 - 1) (2 * 1 - 2) from Nat.zero_add _] at H
    exact H
  · rw [show nI (2 * z - 1) - 2 = nI (2 * z - 3) from pk_sub (a := 2 * z - 1) (b := 2) (by omega)]
    refine al_72p (f := f) hL ht (by omega) (by omega) (row _ (by omega)) ?_
    rw [show 2 * z - 3 + 1 = 2 * z - 2 by omega]
    refine al_72p (f := f) hL ht (by omega) (by omega) (row _ (by omega)) ?_
    rw [show 2 * z - 2 + 1 = 2 * z - 1 by omega]
    refine al_72x ht hm (by omega) hW ?_
    rw [show i + (if t = 0 then 0 else al_in lb f (2 * z - 1) (2 * z - 3)) + (if t = 0 then 0 else al_in lb f (2 * z - 1) (2 * z - 2)) = i + (if t = 0 then 0 else (if 2 ≤ z then al_in lb f (2 * z - 1) (2 * z - 3) else 0) + al_in lb f (2 * z - 1) (2 * z - 2)) by
      rw [if_pos (show 2 ≤ z by omega)]
      split <;> omega]
    exact H
theorem al_p41 {post : Int32 → St2 → Prop} {a1 a2 a3 a4 a5 : Nat → Int32} {lb : Nat → Nat} {V : Nat → Nat → Nat} {z : Nat} (hz : z ≤ 3) (h0 : 0 < z) (hL : al_Lb lb a2) (hW : al_Wt V 0 a1) (hb : al_Ru lb V z 3 a3)
    (H : post (nI (al_sum (al_pt lb V z) 3)) (nI 3, nI z, 0, a1, a2, a3, a4, a5)) :
    ∃ n, wX_prefix_41 post (nI (2 * z - 1)) (nI (al_mk lb (2 * z - 1))) (nI 3) (nI z) 0 a1 a2 a3 a4 a5 n 0 0 := by
  refine pk_loop (fun n i x => wX_prefix_41 post (nI (2 * z - 1)) (nI (al_mk lb (2 * z - 1))) (nI 3) (nI z) 0 a1 a2 a3 a4 a5 n x (nI i)) (fun i x => x = nI (al_sum (al_pt lb V z) i)) 3 0 0 (by omega) rfl ?_ ?_
  · intro n x hx
    refine pk_le 3 3 (fun _ => ?_) (fun e => absurd e (by omega))
    rw [hx]
    exact H
  · intro n i x hi hx hw
    have row : ∀ r, r ≤ 2 * z → 0 < i → a3 ((i - 1) * 9 + r) = nI (al_up lb V (i - 1) r) := fun r hr h0 => hb (i - 1) r (by omega) hr
    have hw' : wX_prefix_41 post (nI (2 * z - 1)) (nI (al_mk lb (2 * z - 1))) (nI 3) (nI z) 0 a1 a2 a3 a4 a5 n (nI (al_sum (al_pt lb V z) i + al_pt lb V z i)) (nI (i + 1)) := hw _ rfl
    unfold al_pt al_fi at hw'
    subst hx
    refine pk_le 3 i (fun e => absurd e (by omega)) (fun _ => pk_eq i 0 (fun e => pk_eq (2 * z - 1) 1 (fun e1 => nm_e ?_) (fun e1 => nm_e ?_)) (fun e => nm_e ?_))
    · rw [if_pos (show i = 0 ∧ z = 1 by omega)] at hw'
      exact al_72 (i := 1) (f := al_up lb V (i - 1)) hz h0 hi hL hW row hw'
    · rw [if_neg (show ¬ (i = 0 ∧ z = 1) by omega)] at hw'
      exact al_72 (i := 0) (f := al_up lb V (i - 1)) hz h0 hi hL hW row hw'
    · rw [if_neg (show ¬ (i = 0 ∧ z = 1) by omega)] at hw'
      exact al_72 (i := 0) (f := al_up lb V (i - 1)) hz h0 hi hL hW row hw'
theorem al_prefix {post : Int32 → St2 → Prop} {p : Int32} {a1 a2 a3 a4 a5 : Nat → Int32} {lb : Nat → Nat} {V : Nat → Nat → Nat} {z : Nat} (hz : z ≤ 3) (hL : al_Lb lb a2) (hW : al_Wt V 0 a1)
    (H : ∀ q b, post (nI (al_pref lb V z)) (nI 3, nI z, q, a1, a2, b, a4, a5)) :
    wpX_prefix post (nI 3, nI z, p, a1, a2, a3, a4, a5) := by
  unfold wpX_prefix
  refine pk_eq z 0 (fun e => ?_) (fun e => ?_)
  · have h' := H p a3
    unfold al_pref at h'
    rw [if_pos e] at h'
    exact al_everything hW h'
  · refine al_carryOn hz hL hW (fun b hb => ?_)
    have h' := H 0 b
    unfold al_pref at h'
    rw [if_neg e] at h'
    refine nm_r (e' := nI (2 * z - 1)) ?_ (al_markAt hL (by omega) (al_p41 hz (by omega) hL hW hb h'))
    rw [al_d2]
    exact pk_sub (a := 2 * z) (b := 1) (by omega)
end
section
/-- a place that can follow pl -/
def al_op (lb : Nat → Nat) (pl : Option Nat) (s : Nat) : Bool :=
  match pl with
  | none => decide (s ≤ 1)
  | some a => al_ld lb a s
/-- a place keeps the goal g -/
def al_kp (lb : Nat → Nat) (V : Nat → Nat → Nat) (z g so : Nat) (pl : Option Nat) (u s : Nat) : Bool :=
  al_op lb pl s && (match al_bo lb V z (2 - u) s with
    | none => false
    | some v => decide (so * V u (al_mk lb s) * v = g))
/-- next, behind the places below i -/
def al_nx (lb : Nat → Nat) (V : Nat → Nat → Nat) (z g so : Nat) (pl : Option Nat) (u : Nat) : Nat → Option Nat
  | 0 => none
  | i + 1 => if al_kp lb V z g so pl u i && (match al_nx lb V z g so pl u i with
      | none => true
      | some q => decide (al_mk lb i < al_mk lb q)) then some i else al_nx lb V z g so pl u i
theorem al_ite {c : Bool} {a : Nat} {o : Option Nat} {q : Nat} (h : (if c then some a else o) = some q) : q = a ∨ o = some q := by
  cases c
  · exact Or.inr h
  · exact Or.inl (Option.some.inj h).symm
theorem al_nx_lt {lb : Nat → Nat} {V : Nat → Nat → Nat} {z g so : Nat} {pl : Option Nat} {u : Nat} : ∀ i q, al_nx lb V z g so pl u i = some q → q < i := by
  intro i
  induction i with
  | zero => intro q h; cases h
  | succ i ih =>
    intro q h
    unfold al_nx at h
    rcases al_ite h with e | e
    · omega
    · have := ih q e
      omega
section
variable {post : Int32 → St2 → Prop} {J29 : Int32 → Int32 → Int32 → Prop} {J41 : Int32 → Int32 → Prop} {c p : Int32} {a1 a2 a3 a4 a5 : Nat → Int32}
theorem al_136 {lb : Nat → Nat} {V : Nat → Nat → Nat} {z g so : Nat} {pl : Option Nat} {u i : Nat} {x1 x2 x3 x4 x5 : Int32} {k : Bool} (hz : z ≤ 3) (hi : i ≤ 2 * z) (hL : al_Lb lb a2) (hk : al_kp lb V z g so pl u i = k)
    (H : J41 (al_oI (al_nx lb V z g so pl u (i + 1))) (nI (i + 1))) :
    wX_bestAt_136 post J29 J41 x1 x2 x3 x4 x5 (al_oI (al_nx lb V z g so pl u i)) (nI i) (nI (al_mk lb i)) (if k then 1 else 0) c (nI z) p a1 a2 a3 a4 a5 := by
  have hu : al_nx lb V z g so pl u (i + 1) = if al_kp lb V z g so pl u i && (match al_nx lb V z g so pl u i with
      | none => true
      | some q => decide (al_mk lb i < al_mk lb q)) then some i else al_nx lb V z g so pl u i := rfl
  cases k with
  | false =>
    rw [hu, hk, Bool.false_and, if_neg (by decide)] at H
    exact br_t rfl (nm_r (nI_1 i) H)
  | true =>
    rw [hu, hk, Bool.true_and] at H
    refine br_f (by decide) ?_
    cases e : al_nx lb V z g so pl u i with
    | none =>
      rw [e] at H
      exact br_t (by decide) (nm_r (nI_1 i) H)
    | some q =>
      have hq := al_nx_lt i q e
      have m1 := al_mk_lt hL (show i < 8 by omega)
      have m2 := al_mk_lt hL (show q < 8 by omega)
      have H' : J41 (al_oI (if decide (al_mk lb i < al_mk lb q) = true then some i else some q)) (nI (i + 1)) := by
        rw [e] at H
        exact H
      refine br_f (nI_pos (by omega)) (al_markAt hL (by omega) ?_)
      refine pk_le (al_mk lb q) (al_mk lb i) (fun c => nm_r (nI_1 i) ?_) (fun c => nm_r (nI_1 i) ?_)
      · rw [if_neg (by rw [decide_eq_true_iff]; omega)] at H'
        exact H'
      · rw [if_pos (by rw [decide_eq_true_iff]; omega)] at H'
        exact H'
theorem al_79 {lb : Nat → Nat} {V : Nat → Nat → Nat} {z g so : Nat} {pl : Option Nat} {u i : Nat} {x1 x4 : Int32} (hz : z ≤ 3) (hi : i ≤ 2 * z) (hu : u < 3) (hg : g ≤ 512) (hso : so ≤ 64) (hL : al_Lb lb a2) (hW : al_Wt V 0 a1) (hV : al_V8 V) (hb : al_Rb lb V z u a4 a5)
    (H : J41 (al_oI (al_nx lb V z g so pl u (i + 1))) (nI (i + 1))) :
    wX_bestAt_79 post J29 J41 x1 (nI g) (nI so) x4 (nI u) (al_oI (al_nx lb V z g so pl u i)) (nI i) (if al_op lb pl i then 1 else 0) c (nI z) 0 a1 a2 a3 a4 a5 := by
  have hm := al_mk_lt hL (show i < 8 by omega)
  have r5 := (hb i hi).2
  have hv8 := hV u _ hu hm
  refine al_markAt hL (by omega) ⟨pk_in (u * 9 + i) 54 (by omega) (al_c9 u i), nm_r (e' := al_oI (al_bo lb V z (2 - u) i)) (by rw [al_c9, nI_clamp (by omega), r5]) ?_⟩
  have hkp : al_kp lb V z g so pl u i = (al_op lb pl i && (match al_bo lb V z (2 - u) i with
    | none => false
    | some v => decide (so * V u (al_mk lb i) * v = g))) := rfl
  cases eo : al_op lb pl i with
  | false =>
    rw [eo, Bool.false_and] at hkp
    exact br_t rfl (al_136 hz hi hL hkp H)
  | true =>
    rw [eo, Bool.true_and] at hkp
    refine br_f (by decide) ?_
    cases ev : al_bo lb V z (2 - u) i with
    | none =>
      rw [ev] at hkp
      exact br_t (by decide) (al_136 hz hi hL hkp H)
    | some v =>
      rw [ev] at hkp
      have hkp' : al_kp lb V z g so pl u i = decide (so * V u (al_mk lb i) * v = g) := hkp
      have hv : v ≤ 64 := by
        have h1 := al_bo_le hL hV hz (2 - u) (by omega) i v ev
        have h2 : 8 ^ (2 - u) ≤ 8 ^ 2 := Nat.pow_le_pow_right (by omega) (by omega)
        omega
      have hp : so * V u (al_mk lb i) * v ≤ 64 * 8 * 64 := Nat.mul_le_mul (Nat.mul_le_mul hso hv8) hv
      refine br_f (nI_pos (by omega)) (al_weightOf hW hu hm ?_)
      refine pk_eq (so * V u (al_mk lb i) * v) g (fun e => ?_) (fun e => ?_) ?_
      · rw [decide_eq_true e] at hkp'
        exact al_136 hz hi hL hkp' H
      · rw [decide_eq_false e] at hkp'
        exact al_136 hz hi hL hkp' H
      · show nI so * nI _ * nI v = _
        rw [pk_mul, pk_mul]
theorem al_41 {lb : Nat → Nat} {V : Nat → Nat → Nat} {z g so : Nat} {pl : Option Nat} {u q : Nat} {x1 : Int32} (hz : z ≤ 3) (hu : u < 3) (hg : g ≤ 512) (hso : so ≤ 64) (hL : al_Lb lb a2) (hW : al_Wt V 0 a1) (hV : al_V8 V) (hb : al_Rb lb V z u a4 a5)
    (hpl : ∀ a, pl = some a → a ≤ 2 * z) (hq : al_nx lb V z g so pl u (2 * z + 1) = some q)
    (H : J29 (nI (so * V u (al_mk lb q))) (nI q) (nI (u + 1))) :
    ∃ n, wX_bestAt_41 post J29 x1 (nI g) (nI so) (al_oI pl) (nI u) c (nI z) 0 a1 a2 a3 a4 a5 n (-1) 0 := by
  refine pk_loop (fun n i x => wX_bestAt_41 post J29 x1 (nI g) (nI so) (al_oI pl) (nI u) c (nI z) 0 a1 a2 a3 a4 a5 n x (nI i)) (fun i x => x = al_oI (al_nx lb V z g so pl u i)) (2 * z + 1) 0 (-1) (by omega) rfl ?_ ?_
  · intro n x hx
    have hql := al_nx_lt _ _ hq
    have hx' : x = nI q := by
      rw [hx, hq]
      rfl
    subst hx'
    refine pk_lt (2 * z) (2 * z + 1) (fun _ => al_markAt hL (by omega) (al_weightOf hW hu (al_mk_lt hL (by omega)) ?_)) (fun e => absurd e (by omega)) (al_d2 z)
    exact nm_r (pk_mul _ _) (nm_r (nI_1 u) H)
  · intro n i x hi hx hw
    subst hx
    refine pk_lt (2 * z) i (fun e => absurd e (by omega)) (fun _ => ?_) (al_d2 z)
    cases pl with
    | none =>
      refine br_f (by decide) (pk_lt 1 i (fun e => ?_) (fun e => ?_))
      · have h := al_79 (post := post) (J29 := J29) (c := c) (a3 := a3) (x1 := x1) (x4 := -1) (pl := none) hz (show i ≤ 2 * z by omega) hu hg hso hL hW hV hb (hw _ rfl)
        rw [show al_op lb none i = false from decide_eq_false (by omega)] at h
        exact h
      · have h := al_79 (post := post) (J29 := J29) (c := c) (a3 := a3) (x1 := x1) (x4 := -1) (pl := none) hz (show i ≤ 2 * z by omega) hu hg hso hL hW hV hb (hw _ rfl)
        rw [show al_op lb none i = true from decide_eq_true (by omega)] at h
        exact h
    | some a =>
      have ha := hpl a rfl
      refine br_t (nI_pos' (by omega)) (al_leads hL (by omega) (by omega) ?_)
      exact al_79 (pl := some a) hz (by omega) hu hg hso hL hW hV hb (hw _ rfl)
end
theorem al_bestAt {post : Int32 → St2 → Prop} {p : Int32} {a1 a2 a3 a4 a5 : Nat → Int32} {lb : Nat → Nat} {V : Nat → Nat → Nat} {z t g q0 q1 q2 : Nat} (hz : z ≤ 3) (ht : t < 3) (hL : al_Lb lb a2) (hW : al_Wt V 0 a1) (hV : al_V8 V)
    (hg : al_gr lb V z = some g) (h0 : al_nx lb V z g 1 none 0 (2 * z + 1) = some q0) (h1 : al_nx lb V z g (1 * V 0 (al_mk lb q0)) (some q0) 1 (2 * z + 1) = some q1)
    (h2 : al_nx lb V z g (1 * V 0 (al_mk lb q0) * V 1 (al_mk lb q1)) (some q1) 2 (2 * z + 1) = some q2)
    (H : ∀ b4 b5, post (nI (al_mk lb (if t = 0 then q0 else if t = 1 then q1 else q2))) (nI 3, nI z, 0, a1, a2, a3, b4, b5)) :
    wpX_bestAt post (nI 3, nI z, p, a1, a2, a3, a4, a5) (nI t) := by
  unfold wpX_bestAt
  refine al_isFrame ht (br_f (by decide) (al_greatest hz hL hW hV (fun b4 b5 hb => ?_)))
  have hgl := al_gr_le hL hV hz hg
  have l0 := al_nx_lt _ _ h0
  have l1 := al_nx_lt _ _ h1
  have l2 := al_nx_lt _ _ h2
  have m0 := hV 0 _ (by omega) (al_mk_lt hL (show q0 < 8 by omega))
  have m1 := hV 1 _ (by omega) (al_mk_lt hL (show q1 < 8 by omega))
  have H' := H b4 b5
  have hs0 : 1 * V 0 (al_mk lb q0) ≤ 64 := by omega
  rw [hg]
  refine br_t (nI_pos' (by omega)) ⟨4, ?_⟩
  refine pk_lt t 0 (fun e => absurd e (by omega)) (fun _ => al_41 (pl := none) (so := 1) (u := 0) hz (by decide) hgl (by decide) hL hW hV (hb 0 (by omega)) (fun a e => by cases e) h0 ?_)
  refine pk_lt t 1 (fun e => ?_) (fun e1 => al_41 (pl := some q0) (so := 1 * V 0 (al_mk lb q0)) (u := 1) hz (by decide) hgl hs0 hL hW hV (hb 1 (by omega)) (fun a e => by cases e; omega) h1 ?_)
  · rw [if_pos (show t = 0 by omega)] at H'
    exact al_markAt hL (by omega) H'
  have hso : 1 * V 0 (al_mk lb q0) * V 1 (al_mk lb q1) ≤ 8 * 8 := Nat.mul_le_mul (by omega) m1
  refine pk_lt t 2 (fun e => ?_) (fun e2 => al_41 (pl := some q1) (so := 1 * V 0 (al_mk lb q0) * V 1 (al_mk lb q1)) (u := 2) hz (by decide) hgl hso hL hW hV (hb 2 (by omega)) (fun a e => by cases e; omega) h2 ?_)
  · rw [if_neg (show ¬ t = 0 by omega), if_pos (show t = 1 by omega)] at H'
    exact al_markAt hL (by omega) H'
  refine pk_lt t 3 (fun e => ?_) (fun e3 => absurd e3 (by omega))
  rw [if_neg (show ¬ t = 0 by omega), if_neg (show ¬ t = 1 by omega)] at H'
  exact al_markAt hL (by omega) H'
theorem al_bestAt_n {post : Int32 → St2 → Prop} {p : Int32} {a1 a2 a3 a4 a5 : Nat → Int32} {lb : Nat → Nat} {V : Nat → Nat → Nat} {z t : Nat} (hz : z ≤ 3) (ht : t < 3) (hL : al_Lb lb a2) (hW : al_Wt V 0 a1) (hV : al_V8 V)
    (hg : al_gr lb V z = none) (H : ∀ b4 b5, post (-1) (nI 3, nI z, 0, a1, a2, a3, b4, b5)) :
    wpX_bestAt post (nI 3, nI z, p, a1, a2, a3, a4, a5) (nI t) := by
  unfold wpX_bestAt
  refine al_isFrame ht (br_f (by decide) (al_greatest hz hL hW hV (fun b4 b5 hb => ?_)))
  rw [hg]
  exact br_f (by decide) (H b4 b5)
end
section
/-- four digits as one number -/
def al_cd (d : Nat → Nat) : Nat := d 0 + 10 * d 1 + 100 * d 2 + 1000 * d 3
theorem al_weights {post : Int32 → Prop} {x : Int32} (h : ∀ d : Nat → Nat, (∀ m, d m ≤ 8) → post (nI (al_cd d))) : wpL_weights post () x := by
  refine nm_r (pk_and x 31 (by decide)) ⟨by decide, by decide, by decide, by decide, by decide, by decide, by decide, ?_⟩
  have hk : x.toBitVec.toNat % 2 ^ 31 < 2 ^ 31 := Nat.mod_lt _ (by decide)
  generalize x.toBitVec.toNat % 2 ^ 31 = k at hk
  have h' := h (fun m => if m = 0 then k % 9 else if m = 1 then k / 9 % 9 else if m = 2 then k / 81 % 9 else k / 729 % 9) (fun m => by split; omega; split; omega; split; omega; omega)
  have e0 : nI k - nI k / 9 * 9 = nI (k % 9) := pk_rem hk (by decide) (by decide)
  have d1 : nI k / 9 = nI (k / 9) := pk_div hk (by decide) (by decide)
  have d2 : nI k / 81 = nI (k / 81) := pk_div hk (by decide) (by decide)
  have d3 : nI k / 729 = nI (k / 729) := pk_div hk (by decide) (by decide)
  have e1 : nI (k / 9) - nI (k / 9) / 9 * 9 = nI (k / 9 % 9) := pk_rem (by omega) (by decide) (by decide)
  have e2 : nI (k / 81) - nI (k / 81) / 9 * 9 = nI (k / 81 % 9) := pk_rem (by omega) (by decide) (by decide)
  have e3 : nI (k / 729) - nI (k / 729) / 9 * 9 = nI (k / 729 % 9) := pk_rem (by omega) (by decide) (by decide)
  rw [e0, d1, d2, d3, e1, e2, e3]
  have m1 : (10 : Int32) * nI (k / 9 % 9) = nI (10 * (k / 9 % 9)) := pk_mul 10 _
  have m2 : (100 : Int32) * nI (k / 81 % 9) = nI (100 * (k / 81 % 9)) := pk_mul 100 _
  have m3 : (1000 : Int32) * nI (k / 729 % 9) = nI (1000 * (k / 729 % 9)) := pk_mul 1000 _
  rw [m1, m2, m3, nI_add, nI_add, nI_add]
  exact h'
theorem al_digit {post : Int32 → Prop} {d : Nat → Nat} {m : Nat} (hd : ∀ m, d m ≤ 8) (hm : m < 4) (h : post (nI (d m))) : wpL_digit post () (nI (al_cd d)) (nI m) := by
  have h0 := hd 0
  have h1 := hd 1
  have h2 := hd 2
  have h3 := hd 3
  have hA : al_cd d ≤ 8888 := by
    unfold al_cd
    omega
  have e0 : nI (al_cd d) - nI (al_cd d) / 10 * 10 = nI (al_cd d % 10) := pk_rem (by omega) (by decide) (by decide)
  have d1 : nI (al_cd d) / 10 = nI (al_cd d / 10) := pk_div (by omega) (by decide) (by decide)
  have e1 : nI (al_cd d / 10) - nI (al_cd d / 10) / 10 * 10 = nI (al_cd d / 10 % 10) := pk_rem (by omega) (by decide) (by decide)
  have d2 : nI (al_cd d) / 100 = nI (al_cd d / 100) := pk_div (by omega) (by decide) (by decide)
  have e2 : nI (al_cd d / 100) - nI (al_cd d / 100) / 10 * 10 = nI (al_cd d / 100 % 10) := pk_rem (by omega) (by decide) (by decide)
  have d3 : nI (al_cd d) / 1000 = nI (al_cd d / 1000) := pk_div (by omega) (by decide) (by decide)
  refine pk_eq m 0 (fun e => ⟨by decide, ?_⟩) (fun n0 => pk_eq m 1 (fun e => ⟨by decide, by decide, ?_⟩) (fun n1 => pk_eq m 2 (fun e => ⟨by decide, by decide, ?_⟩) (fun n2 => ⟨by decide, ?_⟩)))
  · rw [e0]
    subst e
    rw [show al_cd d % 10 = d 0 by unfold al_cd; omega]
    exact h
  · rw [d1, e1]
    subst e
    rw [show al_cd d / 10 % 10 = d 1 by unfold al_cd; omega]
    exact h
  · rw [d2, e2]
    subst e
    rw [show al_cd d / 100 % 10 = d 2 by unfold al_cd; omega]
    exact h
  · rw [d3]
    have e : m = 3 := by omega
    subst e
    rw [show al_cd d / 1000 = d 3 by unfold al_cd; omega]
    exact h
/-- what rests of A behind i digits -/
def al_rt (A : Nat) : Nat → Nat
  | 0 => A
  | i + 1 => al_rt A i / 10
theorem al_rt_d {d : Nat → Nat} (hd : ∀ m, d m ≤ 8) : ∀ i, i < 4 → al_rt (al_cd d) i % 10 = d i := by
  have h0 := hd 0
  have h1 := hd 1
  have h2 := hd 2
  have h3 := hd 3
  intro i hi
  refine co_4 (P := fun i => al_rt (al_cd d) i % 10 = d i) ?_ ?_ ?_ ?_ hi
  · show al_cd d % 10 = d 0
    unfold al_cd
    omega
  · show al_cd d / 10 % 10 = d 1
    unfold al_cd
    omega
  · show al_cd d / 10 / 10 % 10 = d 2
    unfold al_cd
    omega
  · show al_cd d / 10 / 10 / 10 % 10 = d 3
    unfold al_cd
    omega
theorem al_rt_le (A : Nat) : ∀ i, al_rt A i ≤ A := by
  intro i
  induction i with
  | zero => exact Nat.le_refl A
  | succ i ih =>
    show al_rt A i / 10 ≤ A
    omega
theorem al_byte : ∀ k, k < 10 → (nI k).toInt8.toInt32 = nI k := by decide
theorem al_60 {post : Int32 → St2 → Prop} {p z : Int32} {a1 a2 a3 a4 a5 : Nat → Int32} {d : Nat → Nat} {c : Nat} (hc : c < 6) (hd : ∀ m, d m ≤ 8)
    (H : ∀ b, (∀ m, m < 4 → b (c * 4 + m) = nI (d m)) → (∀ j, j < c * 4 → b j = a1 j) → post (nI c) (nI (c + 1), z, p, b, a2, a3, a4, a5)) :
    ∃ n, wX_frame_60 post (nI c) z p n (nI (al_cd d)) 0 a1 a2 a3 a4 a5 := by
  have hA : al_cd d ≤ 8888 := by
    have h0 := hd 0
    have h1 := hd 1
    have h2 := hd 2
    have h3 := hd 3
    unfold al_cd
    omega
  refine pk_loop (fun n i b => wX_frame_60 post (nI c) z p n (nI (al_rt (al_cd d) i)) (nI i) b a2 a3 a4 a5) (fun i b => (∀ m, m < i → b (c * 4 + m) = nI (d m)) ∧ ∀ j, j < c * 4 → b j = a1 j) 4 0 a1 (by omega) ⟨fun m hm => absurd hm (by omega), fun j _ => rfl⟩ ?_ ?_
  · intro n b hb
    refine pk_le 4 4 (fun _ => nm_r (nI_1 c) ?_) (fun e => absurd e (by omega))
    rw [nI_pred]
    exact H b hb.1 hb.2
  · intro n i b hi hb hw
    have hr := al_rt_le (al_cd d) i
    have e0 : nI (al_rt (al_cd d) i) - nI (al_rt (al_cd d) i) / 10 * 10 = nI (d i) := by
      rw [← al_rt_d hd i hi]
      exact pk_rem (by omega) (by decide) (by decide)
    have d1 : nI (al_rt (al_cd d) i) / 10 = nI (al_rt (al_cd d) (i + 1)) := pk_div (by omega) (by decide) (by decide)
    have h8 := hd i
    refine pk_le 4 i (fun e => absurd e (by omega)) (fun _ => ⟨by decide, pk_in (c * 4 + i) 24 (by omega) (al_c4 c i), nm_r (e' := upd b (c * 4 + i) (nI (d i))) ?_ ⟨by decide, nm_r d1 (nm_r (nI_1 i) (hw _ ⟨fun m hm => ?_, fun j hj => ?_⟩))⟩⟩)
    · rw [e0, al_c4, nI_clamp (by omega), al_byte _ (by omega)]
    · by_cases e : m = i
      · rw [e, pk_us]
      · rw [pk_un (by omega)]
        exact hb.1 m (by omega)
    · rw [pk_un (by omega)]
      exact hb.2 j hj
theorem al_frame {post : Int32 → St2 → Prop} {p z : Int32} {a1 a2 a3 a4 a5 : Nat → Int32} {d : Nat → Nat} {c : Nat} (hc : c < 6) (hd : ∀ m, d m ≤ 8)
    (H : ∀ b, (∀ m, m < 4 → b (c * 4 + m) = nI (d m)) → (∀ j, j < c * 4 → b j = a1 j) → post (nI c) (nI (c + 1), z, p, b, a2, a3, a4, a5)) :
    wpX_frame post (nI c, z, p, a1, a2, a3, a4, a5) (nI (al_cd d)) := by
  have hA : al_cd d ≤ 8888 := by
    have h0 := hd 0
    have h1 := hd 1
    have h2 := hd 2
    have h3 := hd 3
    unfold al_cd
    omega
  unfold wpX_frame
  refine br_f (nI_pos (by omega)) (pk_le (al_cd d) 8888 (fun _ => ?_) (fun e => absurd e (by omega)))
  refine pk_loop (σ := Unit) (fun n i _ => wX_frame_17 post (nI (al_cd d)) (nI c) z p a1 a2 a3 a4 a5 n (nI (al_rt (al_cd d) i)) (nI i)) (fun _ _ => True) 4 0 () (by omega) trivial ?_ ?_
  · intro n _ _
    exact pk_le 4 4 (fun _ => pk_lt c 6 (fun _ => al_60 hc hd H) (fun e => absurd e (by omega))) (fun e => absurd e (by omega))
  · intro n i _ hi _ hw
    have hr := al_rt_le (al_cd d) i
    have e0 : nI (al_rt (al_cd d) i) - nI (al_rt (al_cd d) i) / 10 * 10 = nI (d i) := by
      rw [← al_rt_d hd i hi]
      exact pk_rem (by omega) (by decide) (by decide)
    have d1 : nI (al_rt (al_cd d) i) / 10 = nI (al_rt (al_cd d) (i + 1)) := pk_div (by omega) (by decide) (by decide)
    have h8 := hd i
    exact pk_le 4 i (fun e => absurd e (by omega)) (fun _ => ⟨by decide, pk_eq (d i) 9 (fun e => absurd e (by omega)) (fun _ => ⟨by decide, nm_r d1 (nm_r (nI_1 i) (hw () trivial))⟩) e0⟩)
theorem al_write {post : Int32 → St2 → Prop} {c p : Int32} {a1 a2 a3 a4 a5 : Nat → Int32} {k m : Nat} (hk : k < 4) (h1 : 1 ≤ m) (h3 : m ≤ 3)
    (H : post (nI (k + 1)) (c, nI (k + 1), p, a1, upd a2 k (nI m), a3, a4, a5)) :
    wpX_write post (c, nI k, p, a1, a2, a3, a4, a5) (nI m) := by
  unfold wpX_write
  refine pk_lt m 1 (fun e => absurd e (by omega)) (fun _ => pk_le m 3 (fun _ => pk_lt k 4 (fun _ => ⟨pk_in k 4 hk, nm_r ?_ (nm_r (nI_1 k) H)⟩) (fun e => absurd e (by omega))) (fun e => absurd e (by omega)))
  rw [nI_clamp (by omega), al_byte _ (by omega)]
end
section
/-! the law's own side -/
def al_L (l0 l1 l2 : Nat) (k : Nat) : Nat := if k = 0 then l0 else if k = 1 then l1 else if k = 2 then l2 else 0
/-- read -/
def al_rd (z l0 l1 l2 : Nat) : Nat := if z = 0 then 0 else if z = 1 then l0 else if z = 2 then l0 * 4 + l1 else (l0 * 4 + l1) * 4 + l2
def al_g1 (x y : Nat) : Nat := if y = 0 then x else if y = x then x else x * 4 + y
def al_g2 (g y w : Nat) : Nat := if w = 0 then g else if w = y then g else g * 4 + w
/-- got -/
def al_got (k : Nat) : Nat := al_g2 (al_g1 (k / 16) (k / 4 % 4)) (k / 4 % 4) (k % 4)
/-- the weight of a path -/
def al_p (W : Nat → Nat → Nat) (k : Nat) : Nat := W 0 (k / 16) * W 1 (k / 4 % 4) * W 2 (k % 4)
/-- the path's mark at frame t -/
def al_dt (t k : Nat) : Nat := if t = 0 then k / 16 else if t = 1 then k / 4 % 4 else k % 4
def al_bg (r k : Nat) : Bool := decide (al_got k = r ∨ al_got k / 4 = r ∨ al_got k / 16 = r ∨ al_got k / 64 = r)
/-- z marks of 1..3 -/
def al_ok (z l0 l1 l2 : Nat) : Prop := (z = 0 ∧ l0 = 0 ∧ l1 = 0 ∧ l2 = 0) ∨ (z = 1 ∧ (1 ≤ l0 ∧ l0 ≤ 3) ∧ l1 = 0 ∧ l2 = 0) ∨ (z = 2 ∧ (1 ≤ l0 ∧ l0 ≤ 3) ∧ (1 ≤ l1 ∧ l1 ≤ 3) ∧ l2 = 0) ∨ (z = 3 ∧ (1 ≤ l0 ∧ l0 ≤ 3) ∧ (1 ≤ l1 ∧ l1 ≤ 3) ∧ (1 ≤ l2 ∧ l2 ≤ 3))
theorem al_ok_ind {P : Nat → Nat → Nat → Nat → Prop} (h0 : P 0 0 0 0) (h1 : ∀ a, a < 3 → P 1 (a + 1) 0 0) (h2 : ∀ a b, a < 3 → b < 3 → P 2 (a + 1) (b + 1) 0) (h3 : ∀ a b c, a < 3 → b < 3 → c < 3 → P 3 (a + 1) (b + 1) (c + 1)) {z l0 l1 l2 : Nat} (h : al_ok z l0 l1 l2) : P z l0 l1 l2 := by
  rcases h with ⟨rfl, rfl, rfl, rfl⟩ | ⟨rfl, ha, rfl, rfl⟩ | ⟨rfl, ha, hb, rfl⟩ | ⟨rfl, ha, hb, hc⟩
  · exact h0
  · have := h1 (l0 - 1) (by omega)
    rw [show l0 - 1 + 1 = l0 by omega] at this
    exact this
  · have := h2 (l0 - 1) (l1 - 1) (by omega) (by omega)
    rw [show l0 - 1 + 1 = l0 by omega, show l1 - 1 + 1 = l1 by omega] at this
    exact this
  · have := h3 (l0 - 1) (l1 - 1) (l2 - 1) (by omega) (by omega) (by omega)
    rw [show l0 - 1 + 1 = l0 by omega, show l1 - 1 + 1 = l1 by omega, show l2 - 1 + 1 = l2 by omega] at this
    exact this
end
section
theorem al_tot_law (W : Nat → Nat → Nat) {z l0 l1 l2 : Nat} (h : al_ok z l0 l1 l2) : al_tot (al_L l0 l1 l2) W z = al_sum (fun k => if al_got k = al_rd z l0 l1 l2 then al_p W k else 0) 64 := by
  refine al_ok_ind (P := fun z l0 l1 l2 => al_tot (al_L l0 l1 l2) W z = al_sum (fun k => if al_got k = al_rd z l0 l1 l2 then al_p W k else 0) 64) ?_ ?_ ?_ ?_ h
  · simp [al_tot, al_sum, al_up, al_pre, al_in, al_ld, al_mk, al_L, al_rd, al_got, al_g1, al_g2, al_p] <;> grind
  · intro a ha
    rcases (show a = 0 ∨ a = 1 ∨ a = 2 by omega) with rfl | rfl | rfl <;>
    simp [al_tot, al_sum, al_up, al_pre, al_in, al_ld, al_mk, al_L, al_rd, al_got, al_g1, al_g2, al_p] <;> grind
  · intro a b ha hb
    rcases (show a = 0 ∨ a = 1 ∨ a = 2 by omega) with rfl | rfl | rfl <;>
    rcases (show b = 0 ∨ b = 1 ∨ b = 2 by omega) with rfl | rfl | rfl <;>
    simp [al_tot, al_sum, al_up, al_pre, al_in, al_ld, al_mk, al_L, al_rd, al_got, al_g1, al_g2, al_p] <;> grind
  · intro a b c ha hb hc
    rcases (show a = 0 ∨ a = 1 ∨ a = 2 by omega) with rfl | rfl | rfl <;>
    rcases (show b = 0 ∨ b = 1 ∨ b = 2 by omega) with rfl | rfl | rfl <;>
    rcases (show c = 0 ∨ c = 1 ∨ c = 2 by omega) with rfl | rfl | rfl <;>
    simp [al_tot, al_sum, al_up, al_pre, al_in, al_ld, al_mk, al_L, al_rd, al_got, al_g1, al_g2, al_p] <;> grind
theorem al_sum_congr {f g : Nat → Nat} : ∀ n, (∀ k, k < n → f k = g k) → al_sum f n = al_sum g n := by
  intro n
  induction n with
  | zero => intro _; rfl
  | succ n ih =>
    intro h
    show al_sum f n + f n = al_sum g n + g n
    rw [ih (fun k hk => h k (by omega)), h n (by omega)]
theorem al_pat_law {z l0 l1 l2 : Nat} (h : al_ok z l0 l1 l2) : al_tot (al_L l0 l1 l2) (fun _ _ => 1) z = al_sum (fun k => if al_got k = al_rd z l0 l1 l2 then 1 else 0) 64 := by
  rw [al_tot_law _ h]
  refine al_sum_congr 64 (fun k _ => ?_)
  rw [show al_p (fun _ _ => 1) k = 1 from rfl]
theorem al_all_law (W : Nat → Nat → Nat) : al_prod (al_fs W) 3 = al_sum (al_p W) 64 := by
  simp [al_prod, al_fs, al_sum, al_p]
  grind
end
section
theorem al_thr_0 (W : Nat → Nat → Nat) {t m : Nat} (ht : t < 3) (hm : m < 4) : al_thr (al_L 0 0 0) W 0 t m = al_sum (fun k => if al_got k = al_rd 0 0 0 0 ∧ al_dt t k = m then al_p W k else 0) 64 := by
  rcases (show t = 0 ∨ t = 1 ∨ t = 2 by omega) with rfl | rfl | rfl <;>
  rcases (show m = 0 ∨ m = 1 ∨ m = 2 ∨ m = 3 by omega) with rfl | rfl | rfl | rfl <;>
  simp [al_thr, al_sum, al_up, al_on, al_an, al_pre, al_in, al_ld, al_mk, al_L, al_rd, al_got, al_g1, al_g2, al_dt, al_p] <;> grind
theorem al_thr_1 (W : Nat → Nat → Nat) {a : Nat} {t m : Nat} (ht : t < 3) (hm : m < 4) (ha : a < 3) : al_thr (al_L (a + 1) 0 0) W 1 t m = al_sum (fun k => if al_got k = al_rd 1 (a + 1) 0 0 ∧ al_dt t k = m then al_p W k else 0) 64 := by
  rcases (show a = 0 ∨ a = 1 ∨ a = 2 by omega) with rfl | rfl | rfl <;>
  rcases (show t = 0 ∨ t = 1 ∨ t = 2 by omega) with rfl | rfl | rfl <;>
  rcases (show m = 0 ∨ m = 1 ∨ m = 2 ∨ m = 3 by omega) with rfl | rfl | rfl | rfl <;>
  simp [al_thr, al_sum, al_up, al_on, al_an, al_pre, al_in, al_ld, al_mk, al_L, al_rd, al_got, al_g1, al_g2, al_dt, al_p] <;> grind
theorem al_thr_2 (W : Nat → Nat → Nat) {a b : Nat} {t m : Nat} (ht : t < 3) (hm : m < 4) (ha : a < 3) (hb : b < 3) : al_thr (al_L (a + 1) (b + 1) 0) W 2 t m = al_sum (fun k => if al_got k = al_rd 2 (a + 1) (b + 1) 0 ∧ al_dt t k = m then al_p W k else 0) 64 := by
  rcases (show a = 0 ∨ a = 1 ∨ a = 2 by omega) with rfl | rfl | rfl <;>
  rcases (show b = 0 ∨ b = 1 ∨ b = 2 by omega) with rfl | rfl | rfl <;>
  rcases (show t = 0 ∨ t = 1 ∨ t = 2 by omega) with rfl | rfl | rfl <;>
  rcases (show m = 0 ∨ m = 1 ∨ m = 2 ∨ m = 3 by omega) with rfl | rfl | rfl | rfl <;>
  simp [al_thr, al_sum, al_up, al_on, al_an, al_pre, al_in, al_ld, al_mk, al_L, al_rd, al_got, al_g1, al_g2, al_dt, al_p] <;> grind
theorem al_thr_3 (W : Nat → Nat → Nat) {a b c : Nat} {t m : Nat} (ht : t < 3) (hm : m < 4) (ha : a < 3) (hb : b < 3) (hc : c < 3) : al_thr (al_L (a + 1) (b + 1) (c + 1)) W 3 t m = al_sum (fun k => if al_got k = al_rd 3 (a + 1) (b + 1) (c + 1) ∧ al_dt t k = m then al_p W k else 0) 64 := by
  rcases (show a = 0 ∨ a = 1 ∨ a = 2 by omega) with rfl | rfl | rfl <;>
  rcases (show b = 0 ∨ b = 1 ∨ b = 2 by omega) with rfl | rfl | rfl <;>
  rcases (show c = 0 ∨ c = 1 ∨ c = 2 by omega) with rfl | rfl | rfl <;>
  rcases (show t = 0 ∨ t = 1 ∨ t = 2 by omega) with rfl | rfl | rfl <;>
  rcases (show m = 0 ∨ m = 1 ∨ m = 2 ∨ m = 3 by omega) with rfl | rfl | rfl | rfl <;>
  simp [al_thr, al_sum, al_up, al_on, al_an, al_pre, al_in, al_ld, al_mk, al_L, al_rd, al_got, al_g1, al_g2, al_dt, al_p] <;> grind
theorem al_thr_law (W : Nat → Nat → Nat) {z l0 l1 l2 t m : Nat} (ht : t < 3) (hm : m < 4) (h : al_ok z l0 l1 l2) : al_thr (al_L l0 l1 l2) W z t m = al_sum (fun k => if al_got k = al_rd z l0 l1 l2 ∧ al_dt t k = m then al_p W k else 0) 64 :=
  al_ok_ind (P := fun z l0 l1 l2 => al_thr (al_L l0 l1 l2) W z t m = al_sum (fun k => if al_got k = al_rd z l0 l1 l2 ∧ al_dt t k = m then al_p W k else 0) 64) (al_thr_0 W ht hm) (fun a ha => al_thr_1 W ht hm ha) (fun a b ha hb => al_thr_2 W ht hm ha hb) (fun a b c ha hb hc => al_thr_3 W ht hm ha hb hc) h
end
section
theorem al_pref_0 (W : Nat → Nat → Nat) : al_pref (al_L 0 0 0) W 0 = al_sum (fun k => if al_bg (al_rd 0 0 0 0) k then al_p W k else 0) 64 := by
  simp [al_pref, al_pt, al_pr, al_fi, al_prod, al_fs, al_sum, al_up, al_pre, al_in, al_ld, al_mk, al_L, al_rd, al_bg, al_got, al_g1, al_g2, al_p] <;> grind
theorem al_pref_1 (W : Nat → Nat → Nat) {a : Nat} (ha : a < 3) : al_pref (al_L (a + 1) 0 0) W 1 = al_sum (fun k => if al_bg (al_rd 1 (a + 1) 0 0) k then al_p W k else 0) 64 := by
  rcases (show a = 0 ∨ a = 1 ∨ a = 2 by omega) with rfl | rfl | rfl <;>
  simp [al_pref, al_pt, al_pr, al_fi, al_prod, al_fs, al_sum, al_up, al_pre, al_in, al_ld, al_mk, al_L, al_rd, al_bg, al_got, al_g1, al_g2, al_p] <;> grind
theorem al_pref_2 (W : Nat → Nat → Nat) {a b : Nat} (ha : a < 3) (hb : b < 3) : al_pref (al_L (a + 1) (b + 1) 0) W 2 = al_sum (fun k => if al_bg (al_rd 2 (a + 1) (b + 1) 0) k then al_p W k else 0) 64 := by
  rcases (show a = 0 ∨ a = 1 ∨ a = 2 by omega) with rfl | rfl | rfl <;>
  rcases (show b = 0 ∨ b = 1 ∨ b = 2 by omega) with rfl | rfl | rfl <;>
  simp [al_pref, al_pt, al_pr, al_fi, al_prod, al_fs, al_sum, al_up, al_pre, al_in, al_ld, al_mk, al_L, al_rd, al_bg, al_got, al_g1, al_g2, al_p] <;> grind
theorem al_pref_3 (W : Nat → Nat → Nat) {a b c : Nat} (ha : a < 3) (hb : b < 3) (hc : c < 3) : al_pref (al_L (a + 1) (b + 1) (c + 1)) W 3 = al_sum (fun k => if al_bg (al_rd 3 (a + 1) (b + 1) (c + 1)) k then al_p W k else 0) 64 := by
  rcases (show a = 0 ∨ a = 1 ∨ a = 2 by omega) with rfl | rfl | rfl <;>
  rcases (show b = 0 ∨ b = 1 ∨ b = 2 by omega) with rfl | rfl | rfl <;>
  rcases (show c = 0 ∨ c = 1 ∨ c = 2 by omega) with rfl | rfl | rfl <;>
  simp [al_pref, al_pt, al_pr, al_fi, al_prod, al_fs, al_sum, al_up, al_pre, al_in, al_ld, al_mk, al_L, al_rd, al_bg, al_got, al_g1, al_g2, al_p] <;> grind
theorem al_pref_law (W : Nat → Nat → Nat) {z l0 l1 l2 : Nat} (h : al_ok z l0 l1 l2) : al_pref (al_L l0 l1 l2) W z = al_sum (fun k => if al_bg (al_rd z l0 l1 l2) k then al_p W k else 0) 64 :=
  al_ok_ind (P := fun z l0 l1 l2 => al_pref (al_L l0 l1 l2) W z = al_sum (fun k => if al_bg (al_rd z l0 l1 l2) k then al_p W k else 0) 64) (al_pref_0 W) (fun a ha => al_pref_1 W ha) (fun a b ha hb => al_pref_2 W ha hb) (fun a b c ha hb hc => al_pref_3 W ha hb hc) h
end
section
/-! best and bestAt, in plain Lean -/
theorem al_mx_a {o b : Option Nat} {w u : Nat} (h : al_mx o w b = some u) : o = some u ∨ ∃ v, b = some v ∧ u = w * v := by
  unfold al_mx at h
  split at h
  · exact Or.inl h
  · rename_i v
    split at h
    · cases h
      exact Or.inr ⟨v, rfl, rfl⟩
    · split at h
      · exact Or.inl h
      · cases h
        exact Or.inr ⟨v, rfl, rfl⟩
theorem al_mx_o {o b : Option Nat} {w u : Nat} (h : o = some u) : ∃ y, al_mx o w b = some y ∧ u ≤ y := by
  subst h
  cases b with
  | none => exact ⟨u, rfl, Nat.le_refl u⟩
  | some v =>
    show ∃ y, (if w * v ≤ u then some u else some (w * v)) = some y ∧ u ≤ y
    by_cases c : w * v ≤ u
    · rw [if_pos c]
      exact ⟨u, rfl, Nat.le_refl u⟩
    · rw [if_neg c]
      exact ⟨w * v, rfl, by omega⟩
theorem al_mx_b {o b : Option Nat} {w v : Nat} (h : b = some v) : ∃ y, al_mx o w b = some y ∧ w * v ≤ y := by
  subst h
  cases o with
  | none => exact ⟨w * v, rfl, Nat.le_refl _⟩
  | some u =>
    show ∃ y, (if w * v ≤ u then some u else some (w * v)) = some y ∧ w * v ≤ y
    by_cases c : w * v ≤ u
    · rw [if_pos c]
      exact ⟨u, rfl, c⟩
    · rw [if_neg c]
      exact ⟨w * v, rfl, Nat.le_refl _⟩
theorem al_am_a {lb w : Nat → Nat} {f : Nat → Option Nat} {s : Nat} : ∀ j u, al_am lb w f s j = some u → ∃ i, i < j ∧ al_ld lb s (s + i) = true ∧ ∃ v, f (s + i) = some v ∧ u = w (s + i) * v := by
  intro j
  induction j with
  | zero => intro u h; cases h
  | succ j ih =>
    intro u h
    unfold al_am at h
    by_cases c : al_ld lb s (s + j) = true
    · rw [if_pos c] at h
      rcases al_mx_a h with e | ⟨v, hv, e⟩
      · obtain ⟨i, hi, x⟩ := ih u e
        exact ⟨i, by omega, x⟩
      · exact ⟨j, by omega, c, v, hv, e⟩
    · rw [if_neg c] at h
      obtain ⟨i, hi, x⟩ := ih u h
      exact ⟨i, by omega, x⟩
theorem al_am_b {lb w : Nat → Nat} {f : Nat → Option Nat} {s : Nat} : ∀ j i v, i < j → al_ld lb s (s + i) = true → f (s + i) = some v → ∃ u, al_am lb w f s j = some u ∧ w (s + i) * v ≤ u := by
  intro j
  induction j with
  | zero => intro i v h; exact absurd h (by omega)
  | succ j ih =>
    intro i v hi hl hf
    unfold al_am
    by_cases e : i = j
    · subst e
      rw [if_pos hl]
      exact al_mx_b hf
    · obtain ⟨u, hu, hle⟩ := ih i v (by omega) hl hf
      by_cases c : al_ld lb s (s + j) = true
      · rw [if_pos c]
        obtain ⟨y, hy, hle'⟩ := al_mx_o (b := f (s + j)) (w := w (s + j)) hu
        exact ⟨y, hy, by omega⟩
      · rw [if_neg c]
        exact ⟨u, hu, hle⟩
theorem al_ld_le {lb : Nat → Nat} {r s : Nat} (h : al_ld lb r s = true) : r ≤ s ∧ s ≤ r + 2 := by
  have h' := of_decide_eq_true h
  rcases h' with h | h | ⟨h, _⟩ <;> omega
section
variable {lb : Nat → Nat} {V : Nat → Nat → Nat} {z : Nat}
theorem al_bo_a {k s u : Nat} (hs : s ≤ 2 * z) (h : al_bo lb V z (k + 1) s = some u) : ∃ r, r ≤ 2 * z ∧ al_ld lb s r = true ∧ ∃ v, al_bo lb V z k r = some v ∧ u = V (2 - k) (al_mk lb r) * v := by
  obtain ⟨i, hi, hl, v, hv, e⟩ := al_am_a _ u h
  exact ⟨s + i, by omega, hl, v, hv, e⟩
theorem al_bo_b {k s r v : Nat} (hr : r ≤ 2 * z) (hl : al_ld lb s r = true) (hv : al_bo lb V z k r = some v) : ∃ u, al_bo lb V z (k + 1) s = some u ∧ V (2 - k) (al_mk lb r) * v ≤ u := by
  have h1 := al_ld_le hl
  have e : s + (r - s) = r := by omega
  have := al_am_b (lb := lb) (w := fun r => V (2 - k) (al_mk lb r)) (f := al_bo lb V z k) (s := s) (min 3 (2 * z + 1 - s)) (r - s) v (by omega) (by rw [e]; exact hl) (by rw [e]; exact hv)
  rw [e] at this
  exact this
theorem al_bo0_a {s u : Nat} (h : al_bo lb V z 0 s = some u) : 2 * z ≤ s + 1 ∧ u = 1 := by
  unfold al_bo at h
  by_cases c : 2 * z ≤ s + 1
  · rw [if_pos c] at h
    exact ⟨c, (Option.some.inj h).symm⟩
  · rw [if_neg c] at h
    cases h
theorem al_bo0_b {s : Nat} (h : 2 * z ≤ s + 1) : al_bo lb V z 0 s = some 1 := by
  unfold al_bo
  rw [if_pos h]
/-- one frame before the last -/
theorem al_bo1_a {r u : Nat} (hr : r ≤ 2 * z) (h : al_bo lb V z 1 r = some u) : ∃ s, s ≤ 2 * z ∧ al_ld lb r s = true ∧ 2 * z ≤ s + 1 ∧ u = V 2 (al_mk lb s) := by
  obtain ⟨s, hs, hl, v, hv, e⟩ := al_bo_a hr h
  obtain ⟨h1, h2⟩ := al_bo0_a hv
  exact ⟨s, hs, hl, h1, by rw [e, h2, Nat.mul_one]⟩
theorem al_bo1_b {r s : Nat} (hs : s ≤ 2 * z) (hl : al_ld lb r s = true) (he : 2 * z ≤ s + 1) : ∃ u, al_bo lb V z 1 r = some u ∧ V 2 (al_mk lb s) ≤ u := by
  obtain ⟨u, hu, h⟩ := al_bo_b (V := V) hs hl (al_bo0_b he)
  exact ⟨u, hu, by rw [Nat.mul_one] at h; exact h⟩
theorem al_bo2_a {q u : Nat} (hq : q ≤ 2 * z) (h : al_bo lb V z 2 q = some u) : ∃ r s, r ≤ 2 * z ∧ s ≤ 2 * z ∧ al_ld lb q r = true ∧ al_ld lb r s = true ∧ 2 * z ≤ s + 1 ∧ u = V 1 (al_mk lb r) * V 2 (al_mk lb s) := by
  obtain ⟨r, hr, hl, v, hv, e⟩ := al_bo_a hq h
  obtain ⟨s, hs, hl', he, e'⟩ := al_bo1_a hr hv
  exact ⟨r, s, hr, hs, hl, hl', he, by rw [e, e']⟩
theorem al_bo2_b {q r s : Nat} (hr : r ≤ 2 * z) (hs : s ≤ 2 * z) (hl : al_ld lb q r = true) (hl' : al_ld lb r s = true) (he : 2 * z ≤ s + 1) : ∃ u, al_bo lb V z 2 q = some u ∧ V 1 (al_mk lb r) * V 2 (al_mk lb s) ≤ u := by
  obtain ⟨v, hv, h⟩ := al_bo1_b (V := V) hs hl' he
  obtain ⟨u, hu, h'⟩ := al_bo_b (V := V) hr hl hv
  exact ⟨u, hu, Nat.le_trans (Nat.mul_le_mul_left _ h) h'⟩
end
/-- a way over three places -/
def al_vt (lb : Nat → Nat) (z q r s : Nat) : Prop := q ≤ 1 ∧ q ≤ 2 * z ∧ r ≤ 2 * z ∧ s ≤ 2 * z ∧ al_ld lb q r = true ∧ al_ld lb r s = true ∧ 2 * z ≤ s + 1
def al_P (lb : Nat → Nat) (V : Nat → Nat → Nat) (q r s : Nat) : Nat := V 0 (al_mk lb q) * V 1 (al_mk lb r) * V 2 (al_mk lb s)
section
variable {lb : Nat → Nat} {V : Nat → Nat → Nat} {z : Nat}
theorem al_bf_a {q u : Nat} (h1 : q ≤ 1) (hq : q ≤ 2 * z) (h : al_bf lb V z q = some u) : ∃ r s, al_vt lb z q r s ∧ u = al_P lb V q r s := by
  unfold al_bf at h
  cases e : al_bo lb V z 2 q with
  | none =>
    rw [e] at h
    cases h
  | some v =>
    rw [e] at h
    obtain ⟨r, s, hr, hs, hl, hl', he, ev⟩ := al_bo2_a hq e
    refine ⟨r, s, ⟨h1, hq, hr, hs, hl, hl', he⟩, ?_⟩
    have e2 : v * V 0 (al_mk lb q) = u := Option.some.inj h
    rw [← e2, ev]
    unfold al_P
    rw [Nat.mul_comm, Nat.mul_assoc]
theorem al_bf_b {q r s : Nat} (h : al_vt lb z q r s) : ∃ u, al_bf lb V z q = some u ∧ al_P lb V q r s ≤ u := by
  obtain ⟨h1, hq, hr, hs, hl, hl', he⟩ := h
  obtain ⟨v, hv, hle⟩ := al_bo2_b (V := V) hr hs hl hl' he
  refine ⟨v * V 0 (al_mk lb q), ?_, ?_⟩
  · unfold al_bf
    rw [hv]
  · unfold al_P
    rw [Nat.mul_comm v, Nat.mul_assoc]
    exact Nat.mul_le_mul_left _ hle
theorem al_gr_a {g : Nat} (h : al_gr lb V z = some g) : ∃ q r s, al_vt lb z q r s ∧ g = al_P lb V q r s := by
  unfold al_gr at h
  by_cases c : z = 0
  · rw [if_pos c] at h
    exact ⟨0, al_bf_a (by omega) (by omega) h⟩
  · rw [if_neg c] at h
    unfold al_o2 at h
    split at h
    · exact ⟨0, al_bf_a (by omega) (by omega) h⟩
    · rename_i v hv
      split at h
      · cases h
        exact ⟨1, al_bf_a (by omega) (by omega) hv⟩
      · rename_i u hu
        split at h
        · cases h
          exact ⟨0, al_bf_a (by omega) (by omega) hu⟩
        · cases h
          exact ⟨1, al_bf_a (by omega) (by omega) hv⟩
theorem al_o2_l {a b : Option Nat} {u : Nat} (h : a = some u) : ∃ g, al_o2 a b = some g ∧ u ≤ g := by
  subst h
  cases b with
  | none => exact ⟨u, rfl, Nat.le_refl u⟩
  | some v =>
    show ∃ g, (if v ≤ u then some u else some v) = some g ∧ u ≤ g
    by_cases c : v ≤ u
    · rw [if_pos c]
      exact ⟨u, rfl, Nat.le_refl u⟩
    · rw [if_neg c]
      exact ⟨v, rfl, by omega⟩
theorem al_o2_r {a b : Option Nat} {v : Nat} (h : b = some v) : ∃ g, al_o2 a b = some g ∧ v ≤ g := by
  subst h
  cases a with
  | none => exact ⟨v, rfl, Nat.le_refl v⟩
  | some u =>
    show ∃ g, (if v ≤ u then some u else some v) = some g ∧ v ≤ g
    by_cases c : v ≤ u
    · rw [if_pos c]
      exact ⟨u, rfl, c⟩
    · rw [if_neg c]
      exact ⟨v, rfl, Nat.le_refl v⟩
theorem al_gr_b {q r s : Nat} (h : al_vt lb z q r s) : ∃ g, al_gr lb V z = some g ∧ al_P lb V q r s ≤ g := by
  obtain ⟨u, hu, hle⟩ := al_bf_b (V := V) h
  unfold al_gr
  have h1 := h.1
  have h2 := h.2.1
  by_cases c : z = 0
  · rw [if_pos c]
    have : q = 0 := by omega
    subst this
    exact ⟨u, hu, hle⟩
  · rw [if_neg c]
    by_cases e : q = 0
    · subst e
      obtain ⟨g, hg, hl⟩ := al_o2_l (b := al_bf lb V z 1) hu
      exact ⟨g, hg, by omega⟩
    · have : q = 1 := by omega
      subst this
      obtain ⟨g, hg, hl⟩ := al_o2_r (a := al_bf lb V z 0) hu
      exact ⟨g, hg, by omega⟩
end
/-! the law's best and first -/
def al_bs (W : Nat → Nat → Nat) (r : Nat) : Nat → Nat
  | 0 => 0
  | k + 1 => if al_got k = r ∧ al_bs W r k < al_p W k then al_p W k else al_bs W r k
def al_ft (W : Nat → Nat → Nat) (r : Nat) : Nat → Option Nat
  | 0 => none
  | k + 1 => if al_got k = r ∧ (al_ft W r k = none ∨ al_bs W r k < al_p W k) then some k else al_ft W r k
theorem al_ft_n {W : Nat → Nat → Nat} {r : Nat} : ∀ n, al_ft W r n = none → (∀ k, k < n → al_got k ≠ r) ∧ al_bs W r n = 0 := by
  intro n
  induction n with
  | zero => intro _; exact ⟨fun k h => absurd h (by omega), rfl⟩
  | succ n ih =>
    intro h
    unfold al_ft at h
    by_cases c : al_got n = r
    · by_cases c2 : al_ft W r n = none
      · rw [if_pos ⟨c, Or.inl c2⟩] at h
        cases h
      · by_cases c3 : al_bs W r n < al_p W n
        · rw [if_pos ⟨c, Or.inr c3⟩] at h
          cases h
        · rw [if_neg (fun x => by rcases x.2 with y | y <;> contradiction)] at h
          exact absurd h c2
    · rw [if_neg (fun x => c x.1)] at h
      obtain ⟨h1, h2⟩ := ih h
      refine ⟨fun k hk => ?_, ?_⟩
      · by_cases e : k = n
        · rw [e]
          exact c
        · exact h1 k (by omega)
      · unfold al_bs
        rw [if_neg (fun x => c x.1)]
        exact h2
theorem al_ft_s {W : Nat → Nat → Nat} {r : Nat} : ∀ n k, al_ft W r n = some k → k < n ∧ al_got k = r ∧ al_p W k = al_bs W r n ∧ (∀ j, j < n → al_got j = r → al_p W j ≤ al_bs W r n) ∧ (∀ j, j < k → al_got j = r → al_p W j < al_bs W r n) := by
  intro n
  induction n with
  | zero => intro k h; cases h
  | succ n ih =>
    intro k h
    unfold al_ft at h
    unfold al_bs
    by_cases c : al_got n = r
    · by_cases c2 : al_ft W r n = none
      · rw [if_pos ⟨c, Or.inl c2⟩] at h
        cases h
        obtain ⟨h1, h2⟩ := al_ft_n n c2
        have e : (if al_got n = r ∧ al_bs W r n < al_p W n then al_p W n else al_bs W r n) = al_p W n := by
          by_cases c3 : al_bs W r n < al_p W n
          · rw [if_pos ⟨c, c3⟩]
          · rw [if_neg (fun x => c3 x.2)]
            omega
        rw [e]
        refine ⟨by omega, c, rfl, fun j hj hg => ?_, fun j hj hg => absurd hg (h1 j hj)⟩
        by_cases ej : j = n
        · rw [ej]
          exact Nat.le_refl _
        · exact absurd hg (h1 j (by omega))
      · by_cases c3 : al_bs W r n < al_p W n
        · rw [if_pos ⟨c, Or.inr c3⟩] at h
          cases h
          rw [if_pos ⟨c, c3⟩]
          obtain ⟨k', hk'⟩ := Option.ne_none_iff_exists'.mp c2
          obtain ⟨i1, i2, i3, i4, i5⟩ := ih k' hk'
          refine ⟨by omega, c, rfl, fun j hj hg => ?_, fun j hj hg => ?_⟩
          · by_cases ej : j = n
            · rw [ej]
              exact Nat.le_refl _
            · have := i4 j (by omega) hg
              omega
          · have := i4 j hj hg
            omega
        · rw [if_neg (fun x => by rcases x.2 with y | y <;> contradiction)] at h
          rw [if_neg (fun x => c3 x.2)]
          obtain ⟨i1, i2, i3, i4, i5⟩ := ih k h
          refine ⟨by omega, i2, i3, fun j hj hg => ?_, i5⟩
          by_cases ej : j = n
          · rw [ej]
            omega
          · exact i4 j (by omega) hg
    · rw [if_neg (fun x => c x.1)] at h
      rw [if_neg (fun x => c x.1)]
      obtain ⟨i1, i2, i3, i4, i5⟩ := ih k h
      refine ⟨by omega, i2, i3, fun j hj hg => ?_, i5⟩
      by_cases ej : j = n
      · rw [ej] at hg
        exact absurd hg c
      · exact i4 j (by omega) hg
/-! the greedy step -/
theorem al_nx_n {lb : Nat → Nat} {V : Nat → Nat → Nat} {z g so : Nat} {pl : Option Nat} {u : Nat} : ∀ n, al_nx lb V z g so pl u n = none → ∀ i, i < n → al_kp lb V z g so pl u i = false := by
  intro n
  induction n with
  | zero => intro _ i h; exact absurd h (by omega)
  | succ n ih =>
    intro h i hi
    unfold al_nx at h
    cases k : al_kp lb V z g so pl u n with
    | true =>
      cases e : al_nx lb V z g so pl u n with
      | none =>
        rw [k, e] at h
        cases h
      | some q =>
        rw [k, e] at h
        have h' : (if (true && decide (al_mk lb n < al_mk lb q)) = true then some n else some q) = none := h
        split at h' <;> cases h'
    | false =>
      rw [k, Bool.false_and, if_neg (by decide)] at h
      by_cases e : i = n
      · rw [e, k]
      · exact ih h i (by omega)
theorem al_nx_s {lb : Nat → Nat} {V : Nat → Nat → Nat} {z g so : Nat} {pl : Option Nat} {u : Nat} : ∀ n q, al_nx lb V z g so pl u n = some q → al_kp lb V z g so pl u q = true ∧ ∀ i, i < n → al_kp lb V z g so pl u i = true → al_mk lb q ≤ al_mk lb i := by
  intro n
  induction n with
  | zero => intro q h; cases h
  | succ n ih =>
    intro q h
    unfold al_nx at h
    cases k : al_kp lb V z g so pl u n with
    | true =>
      cases e : al_nx lb V z g so pl u n with
      | none =>
        rw [k, e] at h
        cases h
        refine ⟨k, fun i hi hk => ?_⟩
        by_cases ei : i = n
        · rw [ei]
          exact Nat.le_refl _
        · have := al_nx_n n e i (by omega)
          rw [this] at hk
          cases hk
      | some q' =>
        rw [k, e] at h
        have h' : (if (true && decide (al_mk lb n < al_mk lb q')) = true then some n else some q') = some q := h
        obtain ⟨i1, i2⟩ := ih q' e
        rw [Bool.true_and] at h'
        by_cases c : al_mk lb n < al_mk lb q'
        · rw [if_pos (decide_eq_true c)] at h'
          cases h'
          refine ⟨k, fun i hi hk => ?_⟩
          by_cases ei : i = n
          · rw [ei]
            exact Nat.le_refl _
          · have := i2 i (by omega) hk
            omega
        · rw [if_neg (by rw [decide_eq_true_iff]; exact c)] at h'
          cases h'
          refine ⟨i1, fun i hi hk => ?_⟩
          by_cases ei : i = n
          · rw [ei]
            omega
          · exact i2 i (by omega) hk
    | false =>
      rw [k, Bool.false_and, if_neg (by decide)] at h
      obtain ⟨i1, i2⟩ := ih q h
      refine ⟨i1, fun i hi hk => ?_⟩
      by_cases ei : i = n
      · rw [ei, k] at hk
        cases hk
      · exact i2 i (by omega) hk
theorem al_nx_eq {lb : Nat → Nat} {V : Nat → Nat → Nat} {z g so : Nat} {pl : Option Nat} {u n q : Nat} (hq : q < n) (hk : al_kp lb V z g so pl u q = true) (hmin : ∀ i, i < n → al_kp lb V z g so pl u i = true → al_mk lb q ≤ al_mk lb i)
    (huni : ∀ i, i < n → al_kp lb V z g so pl u i = true → al_mk lb i = al_mk lb q → i = q) : al_nx lb V z g so pl u n = some q := by
  cases e : al_nx lb V z g so pl u n with
  | none =>
    have := al_nx_n n e q hq
    rw [this] at hk
    cases hk
  | some q' =>
    obtain ⟨i1, i2⟩ := al_nx_s n q' e
    have hl := al_nx_lt n q' e
    have h1 := i2 q hq hk
    have h2 := hmin q' hl i1
    rw [huni q' hl i1 (by omega)]
theorem al_kp_a {lb : Nat → Nat} {V : Nat → Nat → Nat} {z g so : Nat} {pl : Option Nat} {u s : Nat} (h : al_kp lb V z g so pl u s = true) : al_op lb pl s = true ∧ ∃ v, al_bo lb V z (2 - u) s = some v ∧ so * V u (al_mk lb s) * v = g := by
  unfold al_kp at h
  rw [Bool.and_eq_true] at h
  refine ⟨h.1, ?_⟩
  have h2 := h.2
  cases e : al_bo lb V z (2 - u) s with
  | none =>
    rw [e] at h2
    cases h2
  | some v =>
    rw [e] at h2
    exact ⟨v, rfl, of_decide_eq_true h2⟩
theorem al_kp_b {lb : Nat → Nat} {V : Nat → Nat → Nat} {z g so : Nat} {pl : Option Nat} {u s v : Nat} (h : al_op lb pl s = true) (hb : al_bo lb V z (2 - u) s = some v) (he : so * V u (al_mk lb s) * v = g) : al_kp lb V z g so pl u s = true := by
  unfold al_kp
  rw [h, hb, Bool.true_and]
  exact decide_eq_true he
end
section
def al_w (lb : Nat → Nat) (z q x s : Nat) : Bool := decide (q ≤ 2 * z ∧ x ≤ 2 * z ∧ s ≤ 2 * z ∧ al_ld lb q x = true ∧ al_ld lb x s = true ∧ 2 * z ≤ s + 1)
def al_k1 (lb : Nat → Nat) : Bool := (List.range 7).all (fun s => decide (al_mk lb s < 4))
def al_k2 (lb : Nat → Nat) (z r : Nat) : Bool := (List.range 2).all (fun q => (List.range 7).all (fun x => (List.range 7).all (fun s => !al_w lb z q x s || decide (al_got (16 * al_mk lb q + 4 * al_mk lb x + al_mk lb s) = r))))
def al_k3 (lb : Nat → Nat) (z r : Nat) : Bool := (List.range 64).all (fun k => !decide (al_got k = r) || (List.range 2).any (fun q => (List.range 7).any (fun x => (List.range 7).any (fun s => al_w lb z q x s && decide (16 * al_mk lb q + 4 * al_mk lb x + al_mk lb s = k)))))
def al_k4 (lb : Nat → Nat) (z : Nat) : Bool := (List.range 2).all (fun q => (List.range 2).all (fun x => !decide (q ≤ 2 * z ∧ x ≤ 2 * z ∧ al_mk lb q = al_mk lb x) || decide (q = x)))
def al_k5 (lb : Nat → Nat) (z : Nat) : Bool := (List.range 7).all (fun a => (List.range 7).all (fun q => (List.range 7).all (fun x => !decide (q ≤ 2 * z ∧ x ≤ 2 * z ∧ al_ld lb a q = true ∧ al_ld lb a x = true ∧ al_mk lb q = al_mk lb x) || decide (q = x))))
def al_cc (lb : Nat → Nat) (z r : Nat) : Bool := al_k1 lb && (al_k2 lb z r && (al_k3 lb z r && (al_k4 lb z && al_k5 lb z)))
theorem al_lall {n : Nat} {f : Nat → Bool} (h : (List.range n).all f = true) {i : Nat} (hi : i < n) : f i = true := List.all_eq_true.mp h i (List.mem_range.mpr hi)
theorem al_lany {n : Nat} {f : Nat → Bool} (h : (List.range n).any f = true) : ∃ i, i < n ∧ f i = true := by
  obtain ⟨i, hi, h⟩ := List.any_eq_true.mp h
  exact ⟨i, List.mem_range.mp hi, h⟩
theorem al_imp {c d : Bool} (h : (!c || d) = true) (hc : c = true) : d = true := by
  subst hc
  exact h
/-- what of a label is looked up by cases: ways and paths answer each other -/
def al_Fx (lb : Nat → Nat) (z r : Nat) : Prop :=
  (∀ s, s < 7 → al_mk lb s < 4) ∧
  (∀ q, q < 2 → ∀ x, x < 7 → ∀ s, s < 7 → (q ≤ 2 * z ∧ x ≤ 2 * z ∧ s ≤ 2 * z ∧ al_ld lb q x = true ∧ al_ld lb x s = true ∧ 2 * z ≤ s + 1) → al_got (16 * al_mk lb q + 4 * al_mk lb x + al_mk lb s) = r) ∧
  (∀ k, k < 64 → al_got k = r → ∃ q x s, q < 2 ∧ (q ≤ 2 * z ∧ x ≤ 2 * z ∧ s ≤ 2 * z ∧ al_ld lb q x = true ∧ al_ld lb x s = true ∧ 2 * z ≤ s + 1) ∧ 16 * al_mk lb q + 4 * al_mk lb x + al_mk lb s = k) ∧
  (∀ q, q < 2 → ∀ x, x < 2 → q ≤ 2 * z → x ≤ 2 * z → al_mk lb q = al_mk lb x → q = x) ∧
  (∀ a, a < 7 → ∀ q, q < 7 → ∀ x, x < 7 → q ≤ 2 * z → x ≤ 2 * z → al_ld lb a q = true → al_ld lb a x = true → al_mk lb q = al_mk lb x → q = x)
theorem al_cc_fx {lb : Nat → Nat} {z r : Nat} (h : al_cc lb z r = true) : al_Fx lb z r := by
  unfold al_cc at h
  rw [Bool.and_eq_true, Bool.and_eq_true, Bool.and_eq_true, Bool.and_eq_true] at h
  obtain ⟨h1, h2, h3, h4, h5⟩ := h
  refine ⟨fun s hs => of_decide_eq_true (al_lall h1 hs), fun q hq x hx s hs hw => ?_, fun k hk hg => ?_, fun q hq x hx a b c => ?_, fun a ha q hq x hx b c d e f => ?_⟩
  · exact of_decide_eq_true (al_imp (al_lall (al_lall (al_lall h2 hq) hx) hs) (decide_eq_true hw))
  · obtain ⟨q, hq, h⟩ := al_lany (al_imp (al_lall h3 hk) (decide_eq_true hg))
    obtain ⟨x, hx, h⟩ := al_lany h
    obtain ⟨s, hs, h⟩ := al_lany h
    rw [Bool.and_eq_true] at h
    exact ⟨q, x, s, hq, of_decide_eq_true h.1, of_decide_eq_true h.2⟩
  · exact of_decide_eq_true (al_imp (al_lall (al_lall h4 hq) hx) (decide_eq_true ⟨a, b, c⟩))
  · exact of_decide_eq_true (al_imp (al_lall (al_lall (al_lall h5 ha) hq) hx) (decide_eq_true ⟨b, c, d, e, f⟩))
theorem al_cc0 : al_cc (al_L 0 0 0) 0 (al_rd 0 0 0 0) = true := by decide +kernel
theorem al_cc1 : ∀ a, a < 3 → al_cc (al_L (a + 1) 0 0) 1 (al_rd 1 (a + 1) 0 0) = true := by decide +kernel
theorem al_cc2 : ∀ a, a < 3 → ∀ b, b < 3 → al_cc (al_L (a + 1) (b + 1) 0) 2 (al_rd 2 (a + 1) (b + 1) 0) = true := by decide +kernel
theorem al_cc3 : ∀ a, a < 3 → ∀ b, b < 3 → ∀ c, c < 3 → al_cc (al_L (a + 1) (b + 1) (c + 1)) 3 (al_rd 3 (a + 1) (b + 1) (c + 1)) = true := by decide +kernel
theorem al_fx {z l0 l1 l2 : Nat} (h : al_ok z l0 l1 l2) : al_Fx (al_L l0 l1 l2) z (al_rd z l0 l1 l2) :=
  al_ok_ind (P := fun z l0 l1 l2 => al_Fx (al_L l0 l1 l2) z (al_rd z l0 l1 l2)) (al_cc_fx al_cc0) (fun a ha => al_cc_fx (al_cc1 a ha)) (fun a b ha hb => al_cc_fx (al_cc2 a ha b hb)) (fun a b c ha hb hc => al_cc_fx (al_cc3 a ha b hb c hc)) h
section
variable {lb : Nat → Nat} {V : Nat → Nat → Nat} {z r : Nat}
theorem al_pc {q x s : Nat} (hz : z ≤ 3) (F : al_Fx lb z r) (h : al_vt lb z q x s) :
    al_p V (16 * al_mk lb q + 4 * al_mk lb x + al_mk lb s) = al_P lb V q x s ∧ 16 * al_mk lb q + 4 * al_mk lb x + al_mk lb s < 64 ∧ al_got (16 * al_mk lb q + 4 * al_mk lb x + al_mk lb s) = r := by
  obtain ⟨h1, hq, hx, hs, hl, hl', he⟩ := h
  have m1 := F.1 q (by omega)
  have m2 := F.1 x (by omega)
  have m3 := F.1 s (by omega)
  refine ⟨?_, by omega, F.2.1 q (by omega) x (by omega) s (by omega) ⟨hq, hx, hs, hl, hl', he⟩⟩
  unfold al_p al_P
  rw [show (16 * al_mk lb q + 4 * al_mk lb x + al_mk lb s) / 16 = al_mk lb q by omega, show (16 * al_mk lb q + 4 * al_mk lb x + al_mk lb s) / 4 % 4 = al_mk lb x by omega, show (16 * al_mk lb q + 4 * al_mk lb x + al_mk lb s) % 4 = al_mk lb s by omega]
theorem al_f2 {k : Nat} (F : al_Fx lb z r) (hk : k < 64) (hg : al_got k = r) : ∃ q x s, al_vt lb z q x s ∧ 16 * al_mk lb q + 4 * al_mk lb x + al_mk lb s = k := by
  obtain ⟨q, x, s, hq, h1, h2⟩ := F.2.2.1 k hk hg
  exact ⟨q, x, s, ⟨by omega, h1⟩, h2⟩
theorem al_main_n (hz : z ≤ 3) (F : al_Fx lb z r) (h : al_ft V r 64 = none) : al_gr lb V z = none := by
  cases e : al_gr lb V z with
  | none => rfl
  | some g =>
    obtain ⟨q, x, s, hv, _⟩ := al_gr_a e
    obtain ⟨_, h1, h2⟩ := al_pc (V := V) hz F hv
    exact absurd h2 ((al_ft_n 64 h).1 _ h1)
theorem al_main_s {k : Nat} (hz : z ≤ 3) (F : al_Fx lb z r) (h : al_ft V r 64 = some k) :
    ∃ q x s, al_gr lb V z = some (al_bs V r 64) ∧ al_nx lb V z (al_bs V r 64) 1 none 0 (2 * z + 1) = some q ∧ al_nx lb V z (al_bs V r 64) (1 * V 0 (al_mk lb q)) (some q) 1 (2 * z + 1) = some x ∧
      al_nx lb V z (al_bs V r 64) (1 * V 0 (al_mk lb q) * V 1 (al_mk lb x)) (some x) 2 (2 * z + 1) = some s ∧ al_mk lb q = k / 16 ∧ al_mk lb x = k / 4 % 4 ∧ al_mk lb s = k % 4 := by
  obtain ⟨hk, hgk, hpk, hall, hbef⟩ := al_ft_s 64 k h
  obtain ⟨q, x, s, hv, hc⟩ := al_f2 F hk hgk
  have hmax : ∀ q' x' s', al_vt lb z q' x' s' → al_P lb V q' x' s' ≤ al_bs V r 64 := by
    intro q' x' s' hv'
    obtain ⟨e1, e2, e3⟩ := al_pc (V := V) hz F hv'
    rw [← e1]
    exact hall _ e2 e3
  have hge : ∀ q' x' s', al_vt lb z q' x' s' → al_P lb V q' x' s' = al_bs V r 64 → k ≤ 16 * al_mk lb q' + 4 * al_mk lb x' + al_mk lb s' := by
    intro q' x' s' hv' hP
    obtain ⟨e1, e2, e3⟩ := al_pc (V := V) hz F hv'
    rcases Nat.lt_or_ge (16 * al_mk lb q' + 4 * al_mk lb x' + al_mk lb s') k with c | c
    · have := hbef _ c e3
      rw [e1, hP] at this
      exact absurd this (Nat.lt_irrefl _)
    · exact c
  have hPg : al_P lb V q x s = al_bs V r 64 := by
    rw [← (al_pc (V := V) hz F hv).1, hc, hpk]
  have hv0 := hv
  obtain ⟨h1, hq, hx, hs, hl, hl', he⟩ := hv0
  have mq := F.1 q (by omega)
  have mx := F.1 x (by omega)
  have ms := F.1 s (by omega)
  have hgr : al_gr lb V z = some (al_bs V r 64) := by
    obtain ⟨g, hg, hle⟩ := al_gr_b (V := V) hv
    obtain ⟨q', x', s', hv', eg⟩ := al_gr_a hg
    have := hmax q' x' s' hv'
    rw [hg]
    congr 1
    omega
  generalize al_bs V r 64 = g at *
  refine ⟨q, x, s, hgr, ?_, ?_, ?_, by omega, by omega, by omega⟩
  · refine al_nx_eq (by omega) ?_ ?_ ?_
    · obtain ⟨v, hv1, hle⟩ := al_bo2_b (V := V) hx hs hl hl' he
      obtain ⟨x2, s2, b1, b2, b3, b4, b5, b6⟩ := al_bo2_a hq hv1
      refine al_kp_b (decide_eq_true h1) hv1 ?_
      have u1 := hmax q x2 s2 ⟨h1, hq, b1, b2, b3, b4, b5⟩
      unfold al_P at u1 hPg
      rw [Nat.mul_assoc, ← b6] at u1
      have u2 : V 0 (al_mk lb q) * (V 1 (al_mk lb x) * V 2 (al_mk lb s)) ≤ V 0 (al_mk lb q) * v := Nat.mul_le_mul_left _ hle
      rw [← Nat.mul_assoc, hPg] at u2
      rw [Nat.one_mul]
      omega
    · intro i hi hki
      obtain ⟨o1, v, hv1, ev⟩ := al_kp_a hki
      have hi1 : i ≤ 1 := of_decide_eq_true o1
      obtain ⟨x2, s2, b1, b2, b3, b4, b5, b6⟩ := al_bo2_a (show i ≤ 2 * z by omega) hv1
      have m2 := F.1 x2 (by omega)
      have m3 := F.1 s2 (by omega)
      have := hge i x2 s2 ⟨hi1, by omega, b1, b2, b3, b4, b5⟩ (by
        unfold al_P
        rw [Nat.mul_assoc, ← b6]
        rw [Nat.one_mul] at ev
        exact ev)
      omega
    · intro i hi hki em
      obtain ⟨o1, _⟩ := al_kp_a hki
      have hi1 : i ≤ 1 := of_decide_eq_true o1
      exact F.2.2.2.1 i (by omega) q (by omega) (by omega) hq em
  · refine al_nx_eq (by omega) ?_ ?_ ?_
    · obtain ⟨v, hv1, hle⟩ := al_bo1_b (V := V) hs hl' he
      obtain ⟨s2, b2, b4, b5, b6⟩ := al_bo1_a hx hv1
      refine al_kp_b (pl := some q) hl hv1 ?_
      have u1 := hmax q x s2 ⟨h1, hq, hx, b2, hl, b4, b5⟩
      unfold al_P at u1 hPg
      rw [← b6] at u1
      have u2 : V 0 (al_mk lb q) * V 1 (al_mk lb x) * V 2 (al_mk lb s) ≤ V 0 (al_mk lb q) * V 1 (al_mk lb x) * v := Nat.mul_le_mul_left _ hle
      rw [hPg] at u2
      rw [Nat.one_mul]
      omega
    · intro i hi hki
      obtain ⟨o1, v, hv1, ev⟩ := al_kp_a hki
      obtain ⟨s2, b2, b4, b5, b6⟩ := al_bo1_a (show i ≤ 2 * z by omega) hv1
      have m2 := F.1 i (by omega)
      have m3 := F.1 s2 (by omega)
      have := hge q i s2 ⟨h1, hq, by omega, b2, o1, b4, b5⟩ (by
        unfold al_P
        rw [← b6]
        rw [Nat.one_mul] at ev
        exact ev)
      omega
    · intro i hi hki em
      obtain ⟨o1, _⟩ := al_kp_a hki
      exact F.2.2.2.2 q (by omega) i (by omega) x (by omega) (by omega) hx o1 hl em
  · refine al_nx_eq (by omega) ?_ ?_ ?_
    · refine al_kp_b (pl := some x) hl' (al_bo0_b he) ?_
      rw [Nat.mul_one, Nat.one_mul]
      exact hPg
    · intro i hi hki
      obtain ⟨o1, v, hv1, ev⟩ := al_kp_a hki
      obtain ⟨b5, b6⟩ := al_bo0_a hv1
      have m3 := F.1 i (by omega)
      have := hge q x i ⟨h1, hq, hx, by omega, hl, o1, b5⟩ (by
        unfold al_P
        rw [b6, Nat.mul_one, Nat.one_mul] at ev
        exact ev)
      omega
    · intro i hi hki em
      obtain ⟨o1, _⟩ := al_kp_a hki
      exact F.2.2.2.2 x (by omega) i (by omega) s (by omega) (by omega) hs o1 hl' em
theorem al_main_b (hz : z ≤ 3) (F : al_Fx lb z r) : (al_gr lb V z).getD 0 = al_bs V r 64 := by
  cases e : al_ft V r 64 with
  | none =>
    rw [al_main_n hz F e, (al_ft_n 64 e).2]
    rfl
  | some k =>
    obtain ⟨q, x, s, hg, _⟩ := al_main_s hz F e
    rw [hg]
    rfl
end
end
section
/-! one turn of the law's path loop -/
section
variable {post : Int32 → St0 → Prop} {mc ms : Nat} {J174 : Int32 → Int32 → Int32 → Int32 → Int32 → Int32 → Int32 → Int32 → Prop} {x7 x8 x9 x11 x12 x13 x14 x15 x16 x17 x18 x19 z0 z1 : Int32} {kc ks : Nat} {c z p : Int32} {a1 a2 a3 a4 a5 : Nat → Int32} {b pp k t m d0 d1 d2 g r : Nat} {f : Option Nat} {rd bg : Bool}
theorem al_459 (hb : b ≤ 512) (hp : pp ≤ 512) (H : J174 x14 x15 (nI (if rd = true ∧ b < pp then pp else b)) x17 x18 x19 z0 (nI (k + 1))) :
    wL_lawOf_459 post mc ms J174 x7 x8 x9 x11 x12 x13 x14 x15 (nI b) x17 x18 x19 (nI k) (nI pp) (if rd then 1 else 0) z0 kc ks c z p a1 a2 a3 a4 a5 := by
  cases rd with
  | false =>
    rw [if_neg (fun e => Bool.false_ne_true e.1)] at H
    exact br_t rfl (nm_r (nI_1 k) H)
  | true =>
    refine br_f (by decide) (pk_le pp b (fun e => nm_r (nI_1 k) ?_) (fun e => nm_r (nI_1 k) ?_))
    · rw [if_neg (fun x => absurd x.2 (by omega))] at H
      exact H
    · rw [if_pos ⟨rfl, e⟩] at H
      exact H
theorem al_425 (hb : b ≤ 512) (hp : pp ≤ 512) (hf : ∀ j, f = some j → j < 64)
    (H : J174 x14 x15 (nI (if rd = true ∧ b < pp then pp else b)) x17 (z1 + z0) (x19 + nI pp) (al_oI (if rd = true ∧ (f = none ∨ b < pp) then some k else f)) (nI (k + 1))) :
    wL_lawOf_425 post mc ms J174 x7 x8 x9 x11 x12 x13 x14 x15 (nI b) x17 x19 (al_oI f) (nI k) (nI pp) (if rd then 1 else 0) z0 z1 kc ks c z p a1 a2 a3 a4 a5 := by
  refine nm_e (nm_e ?_)
  cases rd with
  | false =>
    rw [if_neg (fun e : false = true ∧ (f = none ∨ b < pp) => Bool.false_ne_true e.1)] at H
    exact br_t rfl (al_459 (rd := false) hb hp H)
  | true =>
    refine br_f (by decide) ?_
    cases f with
    | none =>
      rw [if_pos (show true = true ∧ ((none : Option Nat) = none ∨ b < pp) from ⟨rfl, Or.inl rfl⟩)] at H
      exact br_t (by decide) (al_459 (rd := true) hb hp H)
    | some j =>
      have hj := hf j rfl
      refine br_f (nI_pos (by omega)) (pk_le pp b (fun e => ?_) (fun e => ?_))
      · rw [if_neg (show ¬ (true = true ∧ (some j = none ∨ b < pp)) from fun x => by
          rcases x.2 with y | y
          · cases y
          · omega)] at H
        exact al_459 (rd := true) hb hp H
      · rw [if_pos (show true = true ∧ (some j = none ∨ b < pp) from ⟨rfl, Or.inr e⟩)] at H
        exact al_459 (rd := true) hb hp H
theorem al_409 (hb : b ≤ 512) (hp : pp ≤ 512) (hf : ∀ j, f = some j → j < 64)
    (H : J174 x14 x15 (nI (if rd = true ∧ b < pp then pp else b)) (z1 + z0) (x18 + if bg then nI pp else 0) (x19 + nI pp) (al_oI (if rd = true ∧ (f = none ∨ b < pp) then some k else f)) (nI (k + 1))) :
    wL_lawOf_409 post mc ms J174 x7 x8 x9 x11 x12 x13 x14 x15 (nI b) x18 x19 (al_oI f) (nI k) (nI pp) (if rd then 1 else 0) (if bg then 1 else 0) z0 z1 kc ks c z p a1 a2 a3 a4 a5 := by
  refine nm_e ?_
  cases bg with
  | false =>
    rw [if_neg Bool.false_ne_true] at H
    exact br_t rfl (al_425 hb hp hf H)
  | true =>
    rw [if_pos rfl] at H
    exact br_f (by decide) (al_425 hb hp hf H)
theorem al_398 {e : Nat} (he : e < 4) (hm : m < 4) (hb : b ≤ 512) (hp : pp ≤ 512) (hf : ∀ j, f = some j → j < 64)
    (H : J174 x14 x15 (nI (if rd = true ∧ b < pp then pp else b)) (z1 + if e = m then nI pp else 0) (x18 + if bg then nI pp else 0) (x19 + nI pp) (al_oI (if rd = true ∧ (f = none ∨ b < pp) then some k else f)) (nI (k + 1))) :
    wL_lawOf_398 post mc ms J174 x7 x8 x9 x11 x12 (nI m) x14 x15 (nI b) x18 x19 (al_oI f) (nI k) (nI pp) (if rd then 1 else 0) (if bg then 1 else 0) (nI e) z1 kc ks c z p a1 a2 a3 a4 a5 := by
  refine pk_eq e m (fun h => ?_) (fun h => ?_)
  · rw [if_pos h] at H
    exact al_409 hb hp hf H
  · rw [if_neg h] at H
    exact al_409 hb hp hf H
theorem al_365 (h0 : d0 < 4) (h1 : d1 < 4) (h2 : d2 < 4) (ht : t < 3) (hm : m < 4) (hb : b ≤ 512) (hp : pp ≤ 512) (hf : ∀ j, f = some j → j < 64)
    (H : J174 x14 (z1 + z0) (nI (if rd = true ∧ b < pp then pp else b)) (x17 + if rd = true ∧ (if t = 0 then d0 else if t = 1 then d1 else d2) = m then nI pp else 0) (x18 + if bg then nI pp else 0) (x19 + nI pp) (al_oI (if rd = true ∧ (f = none ∨ b < pp) then some k else f)) (nI (k + 1))) :
    wL_lawOf_365 post mc ms J174 x7 x8 x9 x11 (nI t) (nI m) x14 (nI b) x17 x18 x19 (al_oI f) (nI k) (nI d0) (nI d1) (nI d2) (nI pp) (if rd then 1 else 0) (if bg then 1 else 0) z0 z1 kc ks c z p a1 a2 a3 a4 a5 := by
  refine nm_e ?_
  cases rd with
  | false =>
    rw [if_neg (fun x : false = true ∧ (if t = 0 then d0 else if t = 1 then d1 else d2) = m => Bool.false_ne_true x.1)] at H
    exact br_t rfl (al_409 (rd := false) hb hp hf H)
  | true =>
    have H' : J174 x14 (z1 + z0) (nI (if true = true ∧ b < pp then pp else b)) (x17 + if (if t = 0 then d0 else if t = 1 then d1 else d2) = m then nI pp else 0) (x18 + if bg then nI pp else 0) (x19 + nI pp) (al_oI (if true = true ∧ (f = none ∨ b < pp) then some k else f)) (nI (k + 1)) := by
      by_cases e : (if t = 0 then d0 else if t = 1 then d1 else d2) = m
      · rw [if_pos e]
        rw [if_pos (show true = true ∧ (if t = 0 then d0 else if t = 1 then d1 else d2) = m from ⟨rfl, e⟩)] at H
        exact H
      · rw [if_neg e]
        rw [if_neg (show ¬ (true = true ∧ (if t = 0 then d0 else if t = 1 then d1 else d2) = m) from fun x => e x.2)] at H
        exact H
    refine br_f (by decide) (pk_eq t 0 (fun e => ?_) (fun n0 => pk_eq t 1 (fun e => ?_) (fun n1 => ?_)))
    · rw [if_pos e] at H'
      exact al_398 (rd := true) h0 hm hb hp hf H'
    · rw [if_neg n0, if_pos e] at H'
      exact al_398 (rd := true) h1 hm hb hp hf H'
    · rw [if_neg n0, if_neg n1] at H'
      exact al_398 (rd := true) h2 hm hb hp hf H'
theorem al_335 (h0 : d0 < 4) (h1 : d1 < 4) (h2 : d2 < 4) (ht : t < 3) (hm : m < 4) (hb : b ≤ 512) (hp : pp ≤ 512) (hf : ∀ j, f = some j → j < 64)
    (H : J174 (x14 + if rd then nI pp else 0) (x15 + if rd then 1 else 0) (nI (if rd = true ∧ b < pp then pp else b)) (x17 + if rd = true ∧ (if t = 0 then d0 else if t = 1 then d1 else d2) = m then nI pp else 0) (x18 + if bg then nI pp else 0) (x19 + nI pp) (al_oI (if rd = true ∧ (f = none ∨ b < pp) then some k else f)) (nI (k + 1))) :
    wL_lawOf_335 post mc ms J174 x7 x8 x9 x11 (nI t) (nI m) x14 x15 (nI b) x17 x18 x19 (al_oI f) (nI k) (nI d0) (nI d1) (nI d2) (nI pp) (if rd then 1 else 0) (if bg then 1 else 0) kc ks c z p a1 a2 a3 a4 a5 := by
  cases rd with
  | false =>
    exact br_t rfl (nm_e (br_t rfl (al_365 (rd := false) h0 h1 h2 ht hm hb hp hf H)))
  | true =>
    exact br_f (by decide) (nm_e (br_f (by decide) (al_365 (rd := true) h0 h1 h2 ht hm hb hp hf H)))
theorem al_294 (hg : g < 64) (hr : r < 64) (h0 : d0 < 4) (h1 : d1 < 4) (h2 : d2 < 4) (ht : t < 3) (hm : m < 4) (hb : b ≤ 512) (hp : pp ≤ 512) (hf : ∀ j, f = some j → j < 64)
    (H : J174 (x14 + if decide (g = r) then nI pp else 0) (x15 + if decide (g = r) then 1 else 0) (nI (if decide (g = r) = true ∧ b < pp then pp else b)) (x17 + if decide (g = r) = true ∧ (if t = 0 then d0 else if t = 1 then d1 else d2) = m then nI pp else 0) (x18 + if decide (g = r ∨ g / 4 = r ∨ g / 16 = r ∨ g / 64 = r) then nI pp else 0) (x19 + nI pp) (al_oI (if decide (g = r) = true ∧ (f = none ∨ b < pp) then some k else f)) (nI (k + 1))) :
    wL_lawOf_280 post mc ms J174 x7 x8 x9 (nI r) (nI t) (nI m) x14 x15 (nI b) x17 x18 x19 (al_oI f) (nI k) (nI d0) (nI d1) (nI d2) (nI pp) (nI g) kc ks c z p a1 a2 a3 a4 a5 := by
  refine pk_eq g r (fun e => ?_) (fun n0 => ?_)
  · rw [decide_eq_true e, decide_eq_true (show g = r ∨ g / 4 = r ∨ g / 16 = r ∨ g / 64 = r from Or.inl e)] at H
    exact br_f (by decide) (al_335 (rd := true) (bg := true) h0 h1 h2 ht hm hb hp hf H)
  · rw [decide_eq_false n0] at H
    have q4 : nI g / 4 = nI (g / 4) := pk_div (by omega) (by decide) (by decide)
    have q16 : nI g / 16 = nI (g / 16) := pk_div (by omega) (by decide) (by decide)
    have q64 : nI g / 64 = nI (g / 64) := pk_div (by omega) (by decide) (by decide)
    refine br_t rfl ⟨by decide, pk_eq (g / 4) r (fun e => ?_) (fun n1 => ⟨by decide, pk_eq (g / 16) r (fun e => ?_) (fun n2 => ⟨by decide, pk_eq (g / 64) r (fun e => ?_) (fun n3 => ?_) q64⟩) q16⟩) q4⟩
    · rw [decide_eq_true (show g = r ∨ g / 4 = r ∨ g / 16 = r ∨ g / 64 = r from Or.inr (Or.inl e))] at H
      exact al_335 (rd := false) (bg := true) h0 h1 h2 ht hm hb hp hf H
    · rw [decide_eq_true (show g = r ∨ g / 4 = r ∨ g / 16 = r ∨ g / 64 = r from Or.inr (Or.inr (Or.inl e)))] at H
      exact al_335 (rd := false) (bg := true) h0 h1 h2 ht hm hb hp hf H
    · rw [decide_eq_true (show g = r ∨ g / 4 = r ∨ g / 16 = r ∨ g / 64 = r from Or.inr (Or.inr (Or.inr e)))] at H
      exact al_335 (rd := false) (bg := true) h0 h1 h2 ht hm hb hp hf H
    · rw [decide_eq_false (show ¬ (g = r ∨ g / 4 = r ∨ g / 16 = r ∨ g / 64 = r) from fun h => by rcases h with h | h | h | h <;> contradiction)] at H
      exact al_335 (rd := false) (bg := false) h0 h1 h2 ht hm hb hp hf H
theorem al_254 (hg : g < 16) (hr : r < 64) (h0 : d0 < 4) (h1 : d1 < 4) (h2 : d2 < 4) (ht : t < 3) (hm : m < 4) (hb : b ≤ 512) (hp : pp ≤ 512) (hf : ∀ j, f = some j → j < 64)
    (H : wL_lawOf_280 post mc ms J174 x7 x8 x9 (nI r) (nI t) (nI m) x14 x15 (nI b) x17 x18 x19 (al_oI f) (nI k) (nI d0) (nI d1) (nI d2) (nI pp) (nI (al_g2 g d1 d2)) kc ks c z p a1 a2 a3 a4 a5) :
    wL_lawOf_254 post mc ms J174 x7 x8 x9 (nI r) (nI t) (nI m) x14 x15 (nI b) x17 x18 x19 (al_oI f) (nI k) (nI d0) (nI d1) (nI d2) (nI pp) (nI g) kc ks c z p a1 a2 a3 a4 a5 := by
  unfold al_g2 at H
  refine pk_eq d2 0 (fun e => ?_) (fun n0 => pk_eq d2 d1 (fun e => ?_) (fun n1 => ?_))
  · rw [if_pos e] at H
    exact H
  · rw [if_neg n0, if_pos e] at H
    exact H
  · rw [if_neg n0, if_neg n1] at H
    rw [al_c4]
    exact H
end
theorem al_g1_lt {x y : Nat} (hx : x < 4) (hy : y < 4) : al_g1 x y < 16 := by
  unfold al_g1
  split
  · omega
  · split <;> omega
theorem al_g2_lt {g y w : Nat} (hg : g < 16) (hw : w < 4) : al_g2 g y w < 64 := by
  unfold al_g2
  split
  · omega
  · split <;> omega
end
section
/-! the law's path loop and its checks -/
theorem al_p_le {W : Nat → Nat → Nat} (h8 : ∀ t m, W t m ≤ 8) (k : Nat) : al_p W k ≤ 512 := by
  have h1 : W 0 (k / 16) * W 1 (k / 4 % 4) ≤ 8 * 8 := Nat.mul_le_mul (h8 _ _) (h8 _ _)
  exact Nat.mul_le_mul h1 (h8 _ _)
theorem al_bs_le {W : Nat → Nat → Nat} (h8 : ∀ t m, W t m ≤ 8) (r : Nat) : ∀ k, al_bs W r k ≤ 512 := by
  intro k
  induction k with
  | zero => exact Nat.zero_le _
  | succ k ih =>
    unfold al_bs
    split
    · exact al_p_le h8 k
    · exact ih
def al_T (W : Nat → Nat → Nat) (r i : Nat) : Nat := al_sum (fun k => if al_got k = r then al_p W k else 0) i
def al_C (r i : Nat) : Nat := al_sum (fun k => if al_got k = r then 1 else 0) i
def al_H (W : Nat → Nat → Nat) (r t m i : Nat) : Nat := al_sum (fun k => if al_got k = r ∧ al_dt t k = m then al_p W k else 0) i
def al_X (W : Nat → Nat → Nat) (r i : Nat) : Nat := al_sum (fun k => if al_bg r k then al_p W k else 0) i
section
variable {post : Int32 → St0 → Prop} {mc ms : Nat} {kc ks : Nat} {p : Int32} {a1 a2 a3 a4 a5 : Nat → Int32} {z t m r l0 l1 l2 : Nat} {W : Nat → Nat → Nat}
theorem al_585 {zz : Int32} (hz : z ≤ 3) (ht : t < 3) (h8 : ∀ t m, W t m ≤ 8) (hL : al_Lb (al_L l0 l1 l2) a2) (hW : al_Wt W 0 a1) (F : al_Fx (al_L l0 l1 l2) z r) (hzz : ∀ k, al_ft W r 64 = some k → zz = nI (al_dt t k)) (hpost : post 1 ()) :
    wL_lawOf_585 post mc ms (nI t) (al_oI (al_ft W r 64)) zz kc ks (nI 3) (nI z) p a1 a2 a3 a4 a5 := by
  have hV : al_V8 W := fun t m _ _ => h8 t m
  unfold wL_lawOf_585
  cases e : al_ft W r 64 with
  | none => exact al_bestAt_n hz ht hL hW hV (al_main_n hz F e) (fun b4 b5 => br_f (by decide) (br_t rfl hpost))
  | some k =>
    obtain ⟨q, x, s, hg, n0, n1, n2, m0, m1, m2⟩ := al_main_s hz F e
    obtain ⟨hk, _⟩ := al_ft_s 64 k e
    refine al_bestAt hz ht hL hW hV hg n0 n1 n2 (fun b4 b5 => br_t (nI_pos' (by omega)) (br_t ?_ hpost))
    rw [hzz k e]
    congr 1
    unfold al_dt
    by_cases t0 : t = 0
    · rw [if_pos t0, if_pos t0]
      exact m0
    · rw [if_neg t0, if_neg t0]
      by_cases t1 : t = 1
      · rw [if_pos t1, if_pos t1]
        exact m1
      · rw [if_neg t1, if_neg t1]
        exact m2
theorem al_174 (hok : al_ok z l0 l1 l2) (hr : r = al_rd z l0 l1 l2) (ht : t < 3) (hm : m < 4) (h8 : ∀ t m, W t m ≤ 8) (hL : al_Lb (al_L l0 l1 l2) a2) (hW : al_Wt W 0 a1) (hpost : post 1 ()) :
    ∃ n, wL_lawOf_174 post mc ms (nI (al_cd (W 0))) (nI (al_cd (W 1))) (nI (al_cd (W 2))) (nI r) (nI t) (nI m) kc ks (nI 3) (nI z) p a1 a2 a3 a4 a5 n 0 0 0 0 0 0 (-1) 0 := by
  have hz : z ≤ 3 := by
    rcases hok with h | h | h | h <;> omega
  have hr64 : r < 64 := by
    rw [hr]
    unfold al_rd
    rcases hok with h | h | h | h
    · rw [if_pos h.1]
      omega
    · rw [if_neg (by omega), if_pos h.1]
      omega
    · rw [if_neg (by omega), if_neg (by omega), if_pos h.1]
      omega
    · rw [if_neg (by omega), if_neg (by omega), if_neg (by omega)]
      omega
  have F : al_Fx (al_L l0 l1 l2) z r := by
    rw [hr]
    exact al_fx hok
  have hV : al_V8 W := fun t m _ _ => h8 t m
  have ft64 : ∀ i, i ≤ 64 → ∀ j, al_ft W r i = some j → j < 64 := fun i hi j e => by
    have := (al_ft_s i j e).1
    omega
  refine pk_loop (σ := Unit) (fun n i _ => wL_lawOf_174 post mc ms (nI (al_cd (W 0))) (nI (al_cd (W 1))) (nI (al_cd (W 2))) (nI r) (nI t) (nI m) kc ks (nI 3) (nI z) p a1 a2 a3 a4 a5 n (nI (al_T W r i)) (nI (al_C r i)) (nI (al_bs W r i)) (nI (al_H W r t m i)) (nI (al_X W r i)) (nI (al_sum (al_p W) i)) (al_oI (al_ft W r i)) (nI i)) (fun _ _ => True) 64 0 () (by omega) trivial ?_ ?_
  · intro n _ _
    have q1 : nI (al_tot (al_L l0 l1 l2) W z) = nI (al_T W r 64) := by rw [hr, al_tot_law W hok]; rfl
    have q2 : nI (al_tot (al_L l0 l1 l2) (fun _ _ => 1) z) = nI (al_C r 64) := by rw [hr, al_pat_law hok]; rfl
    have q3 : nI ((al_gr (al_L l0 l1 l2) W z).getD 0) = nI (al_bs W r 64) := by rw [al_main_b hz F]
    have q4 : nI (al_thr (al_L l0 l1 l2) W z t m) = nI (al_H W r t m 64) := by rw [hr, al_thr_law W ht hm hok]; rfl
    have q5 : nI (al_pref (al_L l0 l1 l2) W z) = nI (al_X W r 64) := by rw [hr, al_pref_law W hok]; rfl
    have q6 : nI (al_prod (al_fs W) 3) = nI (al_sum (al_p W) 64) := by rw [al_all_law W]
    refine pk_le 64 64 (fun _ => ?_) (fun e => absurd e (by omega))
    refine al_total hz hL hW (fun b3 => br_t q1 ?_)
    refine al_paths hz hL (fun b3 => br_t q2 ?_)
    refine al_best hz hL hW hV (fun b4 b5 => br_t q3 ?_)
    refine al_through hz ht hm hL hW hV (fun b3 b4 b5 => br_t q4 ?_)
    refine al_prefix hz hL hW (fun q b => br_t q5 ?_)
    refine al_everything hW (br_t q6 ?_)
    refine pk_eq t 0 (fun e => ?_) (fun n0 => pk_eq t 1 (fun e => ?_) (fun n1 => ?_))
    · refine al_585 hz ht h8 hL hW F (fun k hk => ?_) hpost
      have hk64 := ft64 64 (Nat.le_refl _) k hk
      rw [hk]
      unfold al_dt
      rw [if_pos e]
      exact pk_shrN (by omega) _ 4 (by decide)
    · refine al_585 hz ht h8 hL hW F (fun k hk => ?_) hpost
      have hk64 := ft64 64 (Nat.le_refl _) k hk
      rw [hk]
      unfold al_dt
      rw [if_neg (by omega), if_pos e]
      rw [show al_oI (some k) >>> ((2 : Int32) &&& 31) = nI (k / 2 ^ 2) from pk_shrN (by omega) _ 2 (by decide)]
      exact pk_andN (by omega) 2 (by decide)
    · refine al_585 hz ht h8 hL hW F (fun k hk => ?_) hpost
      have hk64 := ft64 64 (Nat.le_refl _) k hk
      rw [hk]
      unfold al_dt
      rw [if_neg n0, if_neg n1]
      exact pk_andN (by omega) 2 (by decide)
  · intro n i _ hi _ hw
    have d22 : nI i >>> ((4 : Int32) &&& 31) = nI (i / 16) := pk_shrN (by omega) _ 4 (by decide)
    have d23 : (nI i >>> ((2 : Int32) &&& 31)) &&& 3 = nI (i / 4 % 4) := by
      rw [show nI i >>> ((2 : Int32) &&& 31) = nI (i / 2 ^ 2) from pk_shrN (by omega) _ 2 (by decide)]
      exact pk_andN (by omega) 2 (by decide)
    have d24 : nI i &&& 3 = nI (i % 4) := pk_andN (by omega) 2 (by decide)
    refine pk_le 64 i (fun e => absurd e (by omega)) (fun _ => nm_r d22 (nm_r d23 (nm_r d24 ?_)))
    refine al_digit (h8 0) (by omega) (al_digit (h8 1) (by omega) (al_digit (h8 2) (by omega) ?_))
    refine nm_r (e' := nI (al_p W i)) (by rw [pk_mul, pk_mul]; rfl) ?_
    have hJ : wL_lawOf_174 post mc ms (nI (al_cd (W 0))) (nI (al_cd (W 1))) (nI (al_cd (W 2))) (nI r) (nI t) (nI m) kc ks (nI 3) (nI z) p a1 a2 a3 a4 a5 n
        (nI (al_T W r i) + if decide (al_got i = r) then nI (al_p W i) else 0) (nI (al_C r i) + if decide (al_got i = r) then 1 else 0) (nI (if decide (al_got i = r) = true ∧ al_bs W r i < al_p W i then al_p W i else al_bs W r i))
        (nI (al_H W r t m i) + if decide (al_got i = r) = true ∧ (if t = 0 then i / 16 else if t = 1 then i / 4 % 4 else i % 4) = m then nI (al_p W i) else 0)
        (nI (al_X W r i) + if decide (al_got i = r ∨ al_got i / 4 = r ∨ al_got i / 16 = r ∨ al_got i / 64 = r) then nI (al_p W i) else 0) (nI (al_sum (al_p W) i) + nI (al_p W i))
        (al_oI (if decide (al_got i = r) = true ∧ (al_ft W r i = none ∨ al_bs W r i < al_p W i) then some i else al_ft W r i)) (nI (i + 1)) := by
      have h := hw () trivial
      rw [show al_T W r (i + 1) = al_T W r i + (if al_got i = r then al_p W i else 0) from rfl, show al_C r (i + 1) = al_C r i + (if al_got i = r then 1 else 0) from rfl,
        show al_bs W r (i + 1) = (if al_got i = r ∧ al_bs W r i < al_p W i then al_p W i else al_bs W r i) from rfl,
        show al_H W r t m (i + 1) = al_H W r t m i + (if al_got i = r ∧ al_dt t i = m then al_p W i else 0) from rfl,
        show al_X W r (i + 1) = al_X W r i + (if al_bg r i then al_p W i else 0) from rfl,
        show al_sum (al_p W) (i + 1) = al_sum (al_p W) i + al_p W i from rfl,
        show al_ft W r (i + 1) = (if al_got i = r ∧ (al_ft W r i = none ∨ al_bs W r i < al_p W i) then some i else al_ft W r i) from rfl,
        ← nI_add, ← nI_add, ← nI_add, ← nI_add, ← nI_add] at h
      unfold al_bg al_dt at h
      have n_if : ∀ (c : Prop) [Decidable c] (a : Nat), nI (if c then a else 0) = if c then nI a else 0 := by
        intro c _ a
        by_cases e : c
        · rw [if_pos e, if_pos e]
        · rw [if_neg e, if_neg e]
          rfl
      rw [n_if, n_if, n_if, n_if] at h
      simp only [decide_eq_true_eq] at h ⊢
      exact h
    have key := al_254 (post := post) (mc := mc) (ms := ms) (kc := kc) (ks := ks) (c := nI 3) (z := nI z) (p := p) (a1 := a1) (a2 := a2) (a3 := a3) (a4 := a4) (a5 := a5) (x7 := nI (al_cd (W 0))) (x8 := nI (al_cd (W 1))) (x9 := nI (al_cd (W 2)))
      (g := al_g1 (i / 16) (i / 4 % 4)) (d0 := i / 16) (d1 := i / 4 % 4) (d2 := i % 4) (al_g1_lt (by omega) (by omega)) hr64 (by omega) (by omega) (by omega) ht hm (al_bs_le h8 r i) (al_p_le h8 i) (ft64 i (by omega))
      (al_294 (al_g2_lt (al_g1_lt (by omega) (by omega)) (by omega)) hr64 (by omega) (by omega) (by omega) ht hm (al_bs_le h8 r i) (al_p_le h8 i) (ft64 i (by omega)) hJ)
    unfold al_g1 at key
    refine pk_eq (i / 4 % 4) 0 (fun e => ?_) (fun n0 => pk_eq (i / 4 % 4) (i / 16) (fun e => ?_) (fun n1 => ?_))
    · rw [if_pos e] at key
      exact key
    · rw [if_neg n0, if_pos e] at key
      exact key
    · rw [if_neg n0, if_neg n1] at key
      rw [al_c4]
      exact key
end
end
section
/-! the law's label loop, the law, what is owed -/
def al_rr (M : Nat → Nat) : Nat → Nat
  | 0 => 0
  | j + 1 => al_rr M j * 4 + M j
theorem al_law75 {post : Int32 → St0 → Prop} {mc ms kc ks : Nat} {x3 x4 x5 p : Int32} {a1 a3 a4 a5 : Nat → Int32} {Z : Nat} {W : Nat → Nat → Nat} (hZ : Z ≤ 3) (h8 : ∀ t m, W t m ≤ 8) (hW : al_Wt W 0 a1) (hpost : post 1 ()) :
    ∃ n, wL_lawOf_75 post mc ms x3 x4 x5 (nI (al_cd (W 0))) (nI (al_cd (W 1))) (nI (al_cd (W 2))) (nI Z) kc ks n 0 0 (nI 3) 0 p a1 (fun _ => 0) a3 a4 a5 := by
  have hM : ∀ k : Nat, ∃ M : Nat, 1 ≤ M ∧ M ≤ 3 ∧ 1 + (((x3 >>> ((2 + (2 * nI k)) &&& 31)) &&& 3) - ((x3 >>> ((2 + (2 * nI k)) &&& 31)) &&& 3) / 3 * 3) = nI M := by
    intro k
    obtain ⟨j, hj, e⟩ := pk_andE (x3 >>> ((2 + (2 * nI k)) &&& 31)) (m := 3) 2 (by decide)
    refine ⟨1 + j % 3, by omega, by omega, ?_⟩
    rw [e, show nI j - nI j / 3 * 3 = nI (j % 3) from pk_rem (by omega) (by decide) (by decide)]
    exact nI_add 1 _
  have hM2 : ∃ M : Nat → Nat, ∀ k : Nat, 1 ≤ M k ∧ M k ≤ 3 ∧ 1 + (((x3 >>> ((2 + (2 * nI k)) &&& 31)) &&& 3) - ((x3 >>> ((2 + (2 * nI k)) &&& 31)) &&& 3) / 3 * 3) = nI (M k) :=
    ⟨fun k => Classical.choose (hM k), fun k => Classical.choose_spec (hM k)⟩
  obtain ⟨M, hM⟩ := hM2
  refine pk_loop (fun n i (q : Int32 × (Nat → Int32)) => wL_lawOf_75 post mc ms x3 x4 x5 (nI (al_cd (W 0))) (nI (al_cd (W 1))) (nI (al_cd (W 2))) (nI Z) kc ks n q.1 (nI i) (nI 3) (nI (min i Z)) p a1 q.2 a3 a4 a5)
    (fun i q => q.1 = nI (al_rr M (min i Z)) ∧ ∀ k, k < 4 → q.2 k = nI (if k < min i Z then M k else 0)) 3 0 (0, fun _ => 0) (by omega) ⟨by rw [Nat.zero_min]; rfl, fun k hk => by rw [Nat.zero_min, if_neg (by omega)]; rfl⟩ ?_ ?_
  · intro n q hq
    obtain ⟨h1, h2⟩ := hq
    rw [show min 3 Z = Z by omega] at h1 h2
    refine pk_le 3 3 (fun _ => ⟨by decide, ?_⟩) (fun e => absurd e (by omega))
    refine nm_r (e' := nI (x4.toBitVec.toNat % 2 ^ 31 % 3)) ?_ (nm_r (pk_and x5 2 (by decide)) ?_)
    · rw [pk_and x4 (m := 2147483647) 31 (by decide)]
      exact pk_rem (Nat.mod_lt _ (by decide)) (by decide) (by decide)
    · rw [h1, show min 3 Z = Z by omega]
      have g0 := hM 0
      have g1 := hM 1
      have g2 := hM 2
      refine al_174 (l0 := if 0 < Z then M 0 else 0) (l1 := if 1 < Z then M 1 else 0) (l2 := if 2 < Z then M 2 else 0) ?_ ?_ (Nat.mod_lt _ (by decide)) (Nat.mod_lt _ (by decide)) h8 ?_ hW hpost
      · rcases (show Z = 0 ∨ Z = 1 ∨ Z = 2 ∨ Z = 3 by omega) with rfl | rfl | rfl | rfl
        · exact Or.inl ⟨rfl, rfl, rfl, rfl⟩
        · exact Or.inr (Or.inl ⟨rfl, ⟨g0.1, g0.2.1⟩, rfl, rfl⟩)
        · exact Or.inr (Or.inr (Or.inl ⟨rfl, ⟨g0.1, g0.2.1⟩, ⟨g1.1, g1.2.1⟩, rfl⟩))
        · exact Or.inr (Or.inr (Or.inr ⟨rfl, ⟨g0.1, g0.2.1⟩, ⟨g1.1, g1.2.1⟩, ⟨g2.1, g2.2.1⟩⟩))
      · rcases (show Z = 0 ∨ Z = 1 ∨ Z = 2 ∨ Z = 3 by omega) with rfl | rfl | rfl | rfl
        · rfl
        · show 0 * 4 + M 0 = M 0
          omega
        · show (0 * 4 + M 0) * 4 + M 1 = M 0 * 4 + M 1
          omega
        · show ((0 * 4 + M 0) * 4 + M 1) * 4 + M 2 = (M 0 * 4 + M 1) * 4 + M 2
          omega
      · intro k hk
        rw [h2 k hk]
        have e : al_L (if 0 < Z then M 0 else 0) (if 1 < Z then M 1 else 0) (if 2 < Z then M 2 else 0) k = if k < Z then M k else 0 := by
          rcases (show k = 0 ∨ k = 1 ∨ k = 2 ∨ k = 3 by omega) with rfl | rfl | rfl | rfl
          · rfl
          · rfl
          · rfl
          · rw [if_neg (show ¬ 3 < Z by omega)]
            rfl
        rw [e]
        refine ⟨rfl, ?_⟩
        have := (hM k).2.1
        split <;> omega
  · intro n i q hi hq hw
    obtain ⟨h1, h2⟩ := hq
    obtain ⟨m1, m3, em⟩ := hM i
    refine pk_le 3 i (fun e => absurd e (by omega)) (fun _ => ⟨by decide, nm_r em (pk_le Z i (fun e => ?_) (fun e => nm_e ?_))⟩)
    · rw [show min i Z = min (i + 1) Z by omega]
      refine nm_r (nI_1 i) (hw q ⟨?_, ?_⟩)
      · rw [h1, show min i Z = min (i + 1) Z by omega]
      · rw [show min i Z = min (i + 1) Z by omega] at h2
        exact h2
    · rw [show min i Z = i by omega] at h1 h2 ⊢
      refine al_write (by omega) m1 m3 (br_t (nI_1 i).symm (nm_r (nI_1 i) ?_))
      have h := hw (q.1 * 4 + nI (M i), upd q.2 i (nI (M i))) ⟨?_, ?_⟩
      · rw [show min (i + 1) Z = i + 1 by omega] at h
        exact h
      · rw [show min (i + 1) Z = i + 1 by omega, h1]
        exact al_c4 _ _
      · intro k hk
        rw [show min (i + 1) Z = i + 1 by omega]
        show upd q.2 i (nI (M i)) k = _
        by_cases e2 : k = i
        · rw [e2, pk_us, if_pos (by omega)]
        · rw [pk_un e2, h2 k hk]
          by_cases e3 : k < i
          · rw [if_pos e3, if_pos (by omega)]
          · rw [if_neg e3, if_neg (by omega)]
theorem al_lawOf {post : Int32 → St0 → Prop} {p0 p1 p2 p3 p4 p5 : Int32} (hpost : post 1 ()) : wpL_lawOf post 102 1616 () p0 p1 p2 p3 p4 p5 := by
  refine ⟨by decide, by decide, 5, 190, by decide, by decide, ?_⟩
  refine ⟨by decide, by decide, by decide, by decide, by decide, by decide, by decide, by decide, by decide, by decide, ?_⟩
  refine al_weights (fun da ha => al_weights (fun db hb => al_weights (fun dc hc => ?_)))
  refine al_frame (c := 0) (by decide) ha (fun b1 e1 _ => br_t rfl ?_)
  refine al_frame (c := 1) (by decide) hb (fun b2 e2 f2 => br_t rfl ?_)
  refine al_frame (c := 2) (by decide) hc (fun b3 e3 f3 => br_t rfl ⟨by decide, ?_⟩)
  refine nm_r (e' := nI (p3.toBitVec.toNat % 2 ^ 31 % 4)) ?_ ?_
  · rw [pk_and p3 (m := 2147483647) 31 (by decide)]
    exact pk_rem (Nat.mod_lt _ (by decide)) (by decide) (by decide)
  · have hz : p3.toBitVec.toNat % 2 ^ 31 % 4 < 4 := Nat.mod_lt _ (by decide)
    refine al_law75 (W := fun t => if t = 0 then da else if t = 1 then db else dc) (by omega) (fun t m => ?_) (fun t m ht hm => ⟨fun _ => ?_, fun h => absurd rfl h⟩) hpost
    · split
      · exact ha m
      · split
        · exact hb m
        · exact hc m
    · rcases (show t = 0 ∨ t = 1 ∨ t = 2 by omega) with rfl | rfl | rfl
      · rw [f3 _ (by omega), f2 _ (by omega), e1 m hm]
        rfl
      · rw [f3 _ (by omega), e2 m hm]
        rfl
      · rw [e3 m hm]
        rfl
theorem al_cell {post : Int32 → Prop} {L : Nat} {xs : Nat → Int32} {i : Nat} (hL : L ≤ 6) (hi : i < 6) (H : ∀ x, post x) : wpL_cellAt post L xs () (nI i) :=
  pk_le L i (fun _ => H _) (fun e => ⟨pk_in i L e rfl (by omega), H _⟩)
theorem i_vc (xs : Nat → Int32) (L : Nat) (hL : L ≤ 6) : wpL_law (fun r => r = 1) L xs := by
  unfold wpL_law
  refine al_cell (i := 0) hL (by decide) (fun x0 => al_cell (i := 1) hL (by decide) (fun x1 => al_cell (i := 2) hL (by decide) (fun x2 => al_cell (i := 3) hL (by decide) (fun x3 => al_cell (i := 4) hL (by decide) (fun x4 => al_cell (i := 5) hL (by decide) (fun x5 => ?_))))))
  exact ⟨102, 1616, by decide, by decide, al_lawOf rfl⟩
end
