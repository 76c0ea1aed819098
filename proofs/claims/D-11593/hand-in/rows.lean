section
/-! ===== the pure picture ===== -/
/-- the value of key k after p points: point p + 1 adds d + p to the key kk p -/
def qt_V (kk : Nat → Nat) (d : Int32) : Nat → Nat → Int32
  | 0, _ => 0
  | p + 1, k => if kk p = k then qt_V kk d p k + (d + nI p) else qt_V kk d p k
/-- the last point up to p at which the value of key k changed -/
def qt_C (kk : Nat → Nat) (d : Int32) (k : Nat) : Nat → Int32
  | 0 => 0
  | p + 1 => if kk p = k ∧ ¬ d + nI p = 0 then nI (p + 1) else qt_C kk d k p
/-- what a log (point p wrote value vl p to key ky p) says of key k at point n -/
def qt_T (ky : Nat → Nat) (vl : Nat → Int32) (k : Nat) : Nat → Int32
  | 0 => 0
  | n + 1 => if ky (n + 1) = k then vl (n + 1) else qt_T ky vl k n
/-- the log of timeline 0 -/
def qt_y0 (kk : Nat → Nat) (p : Nat) : Nat := kk (p - 1)
def qt_v0 (kk : Nat → Nat) (d : Int32) (p : Nat) : Int32 := qt_V kk d p (kk (p - 1))
/-- the log of timeline 1: that of timeline 0 up to bk, then g gets 0, 1, 2 .. -/
def qt_y1 (kk : Nat → Nat) (bk g : Nat) (p : Nat) : Nat := if p ≤ bk then kk (p - 1) else g
def qt_v1 (kk : Nat → Nat) (d : Int32) (bk : Nat) (p : Nat) : Int32 := if p ≤ bk then qt_V kk d p (kk (p - 1)) else nI (p - bk - 1)
theorem qt_Vs (kk : Nat → Nat) (d : Int32) (p k : Nat) : qt_V kk d (p + 1) k = if kk p = k then qt_V kk d p k + (d + nI p) else qt_V kk d p k := rfl
theorem qt_Cs (kk : Nat → Nat) (d : Int32) (p k : Nat) : qt_C kk d k (p + 1) = if kk p = k ∧ ¬ d + nI p = 0 then nI (p + 1) else qt_C kk d k p := rfl
theorem qt_Ts (ky : Nat → Nat) (vl : Nat → Int32) (k n : Nat) : qt_T ky vl k (n + 1) = if ky (n + 1) = k then vl (n + 1) else qt_T ky vl k n := rfl
theorem qt_Tc {ky ky' : Nat → Nat} {vl vl' : Nat → Int32} {k : Nat} : ∀ n, (∀ p, 1 ≤ p → p ≤ n → ky p = ky' p ∧ vl p = vl' p) → qt_T ky vl k n = qt_T ky' vl' k n := by
  intro n
  induction n with
  | zero => intro _; rfl
  | succ n ih =>
    intro h
    have h1 := h (n + 1) (by omega) (by omega)
    rw [qt_Ts, qt_Ts, h1.1, h1.2, ih (fun p a b => h p a (by omega))]
theorem qt_T0 (kk : Nat → Nat) (d : Int32) (k : Nat) : ∀ n, qt_T (qt_y0 kk) (qt_v0 kk d) k n = qt_V kk d n k := by
  intro n
  induction n with
  | zero => rfl
  | succ n ih =>
    rw [qt_Ts, ih]
    have e1 : qt_y0 kk (n + 1) = kk n := rfl
    have e2 : qt_v0 kk d (n + 1) = qt_V kk d (n + 1) (kk n) := rfl
    rw [e1, e2]
    by_cases h : kk n = k
    · rw [if_pos h, h]
    · rw [if_neg h, qt_Vs, if_neg h]
theorem qt_T1lo (kk : Nat → Nat) (d : Int32) (bk g k n : Nat) (h : n ≤ bk) : qt_T (qt_y1 kk bk g) (qt_v1 kk d bk) k n = qt_V kk d n k := by
  rw [← qt_T0]
  refine qt_Tc n (fun p h1 h2 => ?_)
  have h3 : p ≤ bk := by omega
  exact ⟨if_pos h3, if_pos h3⟩
theorem qt_T1hi (kk : Nat → Nat) (d : Int32) (bk g k : Nat) : ∀ j, qt_T (qt_y1 kk bk g) (qt_v1 kk d bk) k (bk + (j + 1)) = if k = g then nI j else qt_V kk d bk k := by
  intro j
  induction j with
  | zero =>
    have e1 : qt_y1 kk bk g (bk + 1) = g := if_neg (by omega)
    have e2 : qt_v1 kk d bk (bk + 1) = nI (bk + 1 - bk - 1) := if_neg (by omega)
    have e3 : bk + 1 - bk - 1 = 0 := by omega
    show qt_T (qt_y1 kk bk g) (qt_v1 kk d bk) k (bk + 1) = _
    rw [qt_Ts, e1, e2, e3, qt_T1lo kk d bk g k bk (Nat.le_refl bk)]
    by_cases h : g = k
    · rw [if_pos h, if_pos h.symm]
    · rw [if_neg h, if_neg (fun z => h z.symm)]
  | succ j ih =>
    have e1 : qt_y1 kk bk g (bk + (j + 1) + 1) = g := if_neg (by omega)
    have e2 : qt_v1 kk d bk (bk + (j + 1) + 1) = nI (bk + (j + 1) + 1 - bk - 1) := if_neg (by omega)
    have e3 : bk + (j + 1) + 1 - bk - 1 = j + 1 := by omega
    show qt_T (qt_y1 kk bk g) (qt_v1 kk d bk) k (bk + (j + 1) + 1) = _
    rw [qt_Ts, e1, e2, e3, ih]
    by_cases h : g = k
    · rw [if_pos h, if_pos h.symm]
    · rw [if_neg h, if_neg (fun z => h z.symm), if_neg (fun z => h z.symm)]
theorem qt_add0 {x y : Int32} (h : x + y = x) : y = 0 := by grind
/-- the value changes at point p + 1 exactly where the last change is p + 1 -/
theorem qt_Cq {kk : Nat → Nat} {d : Int32} {p k : Nat} (h : qt_V kk d p k = qt_V kk d (p + 1) k) : qt_C kk d k (p + 1) = qt_C kk d k p := by
  rw [qt_Cs]
  refine if_neg (fun z => ?_)
  rw [qt_Vs, if_pos z.1] at h
  exact z.2 (qt_add0 h.symm)
theorem qt_Cn {kk : Nat → Nat} {d : Int32} {p k : Nat} (h : ¬ qt_V kk d p k = qt_V kk d (p + 1) k) : qt_C kk d k (p + 1) = nI (p + 1) := by
  rw [qt_Cs]
  by_cases e : kk p = k
  · refine if_pos ⟨e, fun z => h ?_⟩
    rw [qt_Vs, if_pos e, z]
    grind
  · exact absurd (by rw [qt_Vs, if_neg e]) h
/-! ===== doing changes over, purely: q points have been done ===== -/
def qt_J (ky : Nat → Nat) (vl : Nat → Int32) (n q : Nat) (f g : Nat → Int32) : Prop :=
  ∀ k, k < 8 → ∃ m, m ≤ n ∧ g k = nI m ∧ f k = qt_T ky vl k m ∧ (m ≤ q → qt_T ky vl k m = qt_T ky vl k q)
theorem qt_J_skip {ky : Nat → Nat} {vl : Nat → Int32} {n q : Nat} {f g : Nat → Int32} (hn : n ≤ 30) (hk : ky (q + 1) < 8) (hq : q < n) (h : qt_J ky vl n q f g) (hs : nI (q + 1) ≤ g (ky (q + 1))) : qt_J ky vl n (q + 1) f g := by
  intro k hk8
  obtain ⟨m, h1, h2, h3, h4⟩ := h k hk8
  refine ⟨m, h1, h2, h3, fun hm => ?_⟩
  by_cases e : m = q + 1
  · rw [e]
  · by_cases ek : ky (q + 1) = k
    · rw [ek, h2, nI_leI (by omega) (by omega)] at hs
      omega
    · rw [qt_Ts, if_neg ek]
      exact h4 (by omega)
theorem qt_J_put {ky : Nat → Nat} {vl : Nat → Int32} {n q : Nat} {f g : Nat → Int32} (hq : q < n) (h : qt_J ky vl n q f g) : qt_J ky vl n (q + 1) (upd f (ky (q + 1)) (vl (q + 1))) (upd g (ky (q + 1)) (nI (q + 1))) := by
  intro k hk8
  by_cases ek : k = ky (q + 1)
  · refine ⟨q + 1, by omega, ?_, ?_, fun _ => rfl⟩
    · rw [ek, pk_us]
    · rw [ek, pk_us, qt_Ts, if_pos rfl]
  · obtain ⟨m, h1, h2, h3, h4⟩ := h k hk8
    refine ⟨m, h1, ?_, ?_, fun hm => ?_⟩
    · rw [pk_un ek, h2]
    · rw [pk_un ek, h3]
    · by_cases e : m = q + 1
      · rw [e]
      · rw [qt_Ts ky vl k q, if_neg (fun z => ek z.symm)]
        exact h4 (by omega)
theorem qt_J_end {ky : Nat → Nat} {vl : Nat → Int32} {n : Nat} {f g : Nat → Int32} (h : qt_J ky vl n n f g) : ∀ k, k < 8 → f k = qt_T ky vl k n := by
  intro k hk
  obtain ⟨m, h1, h2, h3, h4⟩ := h k hk
  rw [h3, h4 h1]
theorem qt_J_0 {ky : Nat → Nat} {vl : Nat → Int32} {n : Nat} {f g : Nat → Int32} (h : ∀ k, k < 8 → ∃ m, m ≤ n ∧ g k = nI m ∧ f k = qt_T ky vl k m) : qt_J ky vl n 0 f g := by
  intro k hk
  obtain ⟨m, h1, h2, h3⟩ := h k hk
  refine ⟨m, h1, h2, h3, fun hm => ?_⟩
  rw [show m = 0 by omega]
end
section
/-! ===== the methods that read ===== -/
/-- where the change that made point p of timeline t lies -/
def qt_E (t bk p : Nat) : Nat := if t = 0 ∨ p ≤ bk then p else 31 + p
theorem qt_E0 (bk p : Nat) : qt_E 0 bk p = p := if_pos (Or.inl rfl)
theorem qt_Elo {t bk p : Nat} (h : p ≤ bk) : qt_E t bk p = p := if_pos (Or.inr h)
theorem qt_Ehi {bk p : Nat} (h : bk < p) : qt_E 1 bk p = 31 + p := if_neg (by omega)
theorem qt_Elt {t bk p : Nat} (h : p ≤ 30) : qt_E t bk p < 186 := by
  unfold qt_E
  split <;> omega
/-- parents and forks, as far as timeline t needs them -/
def qt_F (a5 a6 : Nat → Int32) (t bk : Nat) : Prop := bk ≤ 8 ∧ a6 0 = 0 ∧ (t = 0 ∨ (t = 1 ∧ a5 1 = 0 ∧ a6 1 = nI bk))
/-- the log of timeline t up to point n -/
def qt_L (a1 a2 a3 : Nat → Int32) (t bk n : Nat) (ky : Nat → Nat) (vl : Nat → Int32) : Prop :=
  n ≤ 30 ∧ ∀ p, 1 ≤ p → p ≤ n → ky p < 8 ∧ a1 (qt_E t bk p) = nI (ky p) ∧ a2 (qt_E t bk p) = vl p ∧ a3 (qt_E t bk p) = -1
theorem qt_31 (t p : Nat) : nI t * 31 + nI p = nI (t * 31 + p) := by
  show nI t * nI 31 + nI p = _
  rw [pk_mul, nI_add]
theorem qt_8 (t p : Nat) : nI t * 8 + nI p = nI (t * 8 + p) := by
  show nI t * nI 8 + nI p = _
  rw [pk_mul, nI_add]
theorem qt_m1 {n : Nat} (h : n < 8) : ¬ (-1 : Int32) = nI n := by
  intro z
  have e : ((-1 : Int32)).toInt = (nI n).toInt := by rw [z]
  rw [nI_toInt (by omega)] at e
  have e2 : ((-1 : Int32)).toInt = -1 := by decide
  omega
section
variable {tl now nb uw cp : Int32} {a1 a2 a3 a4 a5 a6 a7 a8 a9 a10 a11 a12 a13 a14 a15 a16 a17 : Nat → Int32}
theorem qt_entry {post : Int32 → Prop} {t bk p : Nat} (hF : qt_F a5 a6 t bk) (h1 : 1 ≤ p) (h2 : p ≤ 30) (H : post (nI (qt_E t bk p))) : wpX_entry post (tl, now, nb, uw, cp, a1, a2, a3, a4, a5, a6, a7, a8, a9, a10, a11, a12, a13, a14, a15, a16, a17) (nI t) (nI p) := by
  obtain ⟨hb, h0, h⟩ := hF
  have g0 : ∀ n i, i < 6 → post (nI p) → wX_entry_5 post (nI p) tl now nb uw cp a1 a2 a3 a4 a5 a6 a7 a8 a9 a10 a11 a12 a13 a14 a15 a16 a17 (n + 1) (nI 0) (nI i) := by
    intro n i hi Hp
    have e : nI 0 * 31 + nI p = nI p := by rw [qt_31, show 0 * 31 + p = p by omega]
    refine pk_le 6 i (fun z => absurd z (by omega)) (fun _ => ⟨pk_in 0 6 (by omega), pk_lt 0 p (fun _ => ?_) (fun z => absurd z (by omega)) h0⟩)
    rw [e]
    exact Hp
  rcases h with rfl | ⟨rfl, h5, h6⟩
  · rw [qt_E0] at H
    exact ⟨1, g0 0 0 (by omega) H⟩
  · by_cases hp : p ≤ bk
    · rw [qt_Elo hp] at H
      refine ⟨2, pk_le 6 0 (fun z => absurd z (by omega)) (fun _ => ⟨pk_in 1 6 (by omega), pk_lt bk p (fun z => absurd z (by omega)) (fun _ => ⟨pk_in 1 6 (by omega), pk_lt 0 0 (fun z => absurd z (by omega)) (fun _ => ⟨pk_in 1 6 (by omega), nm_r h5 (nm_r (nI_1 0) (g0 0 1 (by omega) H))⟩) h5⟩) h6⟩)⟩
    · rw [qt_Ehi (by omega)] at H
      have e : nI 1 * 31 + nI p = nI (31 + p) := by rw [qt_31]
      refine ⟨1, pk_le 6 0 (fun z => absurd z (by omega)) (fun _ => ⟨pk_in 1 6 (by omega), pk_lt bk p (fun _ => ?_) (fun z => absurd z (by omega)) h6⟩)⟩
      rw [e]
      exact H
theorem qt_valueThen {post : Int32 → Prop} {t bk N n k : Nat} {ky : Nat → Nat} {vl : Nat → Int32} (hF : qt_F a5 a6 t bk) (hL : qt_L a1 a2 a3 t bk N ky vl) (hn : n ≤ N) (hk : k < 8) (H : post (qt_T ky vl k n)) : wpX_valueThen post (tl, now, nb, uw, cp, a1, a2, a3, a4, a5, a6, a7, a8, a9, a10, a11, a12, a13, a14, a15, a16, a17) (nI t) (nI n) (nI k) := by
  obtain ⟨hN, hL⟩ := hL
  refine ⟨n + 1, ?_⟩
  revert H hn
  induction n with
  | zero => exact fun _ H => br_t (by decide) H
  | succ n ih =>
    intro hn H
    obtain ⟨g1, g2, g3, g4⟩ := hL (n + 1) (by omega) (by omega)
    have hE : qt_E t bk (n + 1) < 186 := qt_Elt (by omega)
    refine br_f (nI_nle (by omega) (by omega)) (qt_entry hF (by omega) (by omega) ?_)
    rw [nI_clamp (show qt_E t bk (n + 1) < 2 ^ 31 by omega), g4, g3, g2]
    refine ⟨pk_in _ 186 hE, br_f (qt_m1 hk) ⟨pk_in _ 186 hE, pk_eq (ky (n + 1)) k (fun z => ⟨pk_in _ 186 hE, ?_⟩) (fun z => nm_r (pk_m1 n) (ih (by omega) ?_))⟩⟩
    · rw [qt_Ts, if_pos z] at H
      exact H
    · rw [qt_Ts, if_neg z] at H
      exact H
theorem qt_np_no {post : Int32 → Prop} {t n e : Nat} (T : Nat) (ht : t < T) (hT : T ≤ 6) (htl : tl = nI T) (h7 : a7 t = nI e) (hn : n ≤ e) (he : e ≤ 30) (H : post 0) : wpX_noPoint post (tl, now, nb, uw, cp, a1, a2, a3, a4, a5, a6, a7, a8, a9, a10, a11, a12, a13, a14, a15, a16, a17) (nI t) (nI n) := by
  subst htl
  exact br_f (nI_pos (by omega)) (pk_le T t (fun z => absurd z (by omega)) (fun _ => br_f (nI_pos (by omega)) ⟨pk_in t 6 (by omega), pk_le n e (fun _ => H) (fun z => absurd z (by omega)) rfl (by rw [nI_clamp (by omega)]; exact h7)⟩))
theorem qt_np_end {post : Int32 → Prop} {t n e : Nat} (T : Nat) (ht : t < T) (hT : T ≤ 6) (htl : tl = nI T) (h7 : a7 t = nI e) (hn : e < n) (he : n ≤ 30) (H : post 1) : wpX_noPoint post (tl, now, nb, uw, cp, a1, a2, a3, a4, a5, a6, a7, a8, a9, a10, a11, a12, a13, a14, a15, a16, a17) (nI t) (nI n) := by
  subst htl
  exact br_f (nI_pos (by omega)) (pk_le T t (fun z => absurd z (by omega)) (fun _ => br_f (nI_pos (by omega)) ⟨pk_in t 6 (by omega), pk_le n e (fun z => absurd z (by omega)) (fun _ => H) rfl (by rw [nI_clamp (by omega)]; exact h7)⟩))
theorem qt_np_far {post : Int32 → Prop} {t : Nat} {x : Int32} (T : Nat) (ht : T ≤ t) (hT : t ≤ 6) (htl : tl = nI T) (H : post 1) : wpX_noPoint post (tl, now, nb, uw, cp, a1, a2, a3, a4, a5, a6, a7, a8, a9, a10, a11, a12, a13, a14, a15, a16, a17) (nI t) x := by
  subst htl
  exact br_f (nI_pos (by omega)) (pk_le T t (fun _ => H) (fun z => absurd z (by omega)))
theorem qt_bad_no {post : Int32 → Prop} {k : Nat} (hk : k < 8) (H : post 0) : wpX_bad post (tl, now, nb, uw, cp, a1, a2, a3, a4, a5, a6, a7, a8, a9, a10, a11, a12, a13, a14, a15, a16, a17) (nI k) :=
  br_f (nI_pos (by omega)) (pk_lt k 8 (fun _ => H) (fun z => absurd z (by omega)))
theorem qt_bad_8 {post : Int32 → Prop} (H : post 1) : wpX_bad post (tl, now, nb, uw, cp, a1, a2, a3, a4, a5, a6, a7, a8, a9, a10, a11, a12, a13, a14, a15, a16, a17) 8 :=
  br_f (by decide) (br_f (by decide) H)
theorem qt_get {post : Int32 → Prop} {k : Nat} (hk : k < 8) (H : post (a8 k)) : wpX_get post (tl, now, nb, uw, cp, a1, a2, a3, a4, a5, a6, a7, a8, a9, a10, a11, a12, a13, a14, a15, a16, a17) (nI k) := by
  unfold wpX_get
  refine qt_bad_no hk (br_t rfl ⟨pk_in k 8 hk, ?_⟩)
  rw [nI_clamp (by omega)]
  exact H
theorem qt_get_8 {post : Int32 → Prop} (H : post 0) : wpX_get post (tl, now, nb, uw, cp, a1, a2, a3, a4, a5, a6, a7, a8, a9, a10, a11, a12, a13, a14, a15, a16, a17) 8 := by
  unfold wpX_get
  exact qt_bad_8 (br_f (by decide) H)
theorem qt_valueAt {post : Int32 → Prop} {t bk N n k e : Nat} {ky : Nat → Nat} {vl : Nat → Int32} (T : Nat) (ht : t < T) (hT : T ≤ 6) (htl : tl = nI T) (h7 : a7 t = nI e) (hn : n ≤ e) (he : e ≤ 30) (hF : qt_F a5 a6 t bk) (hL : qt_L a1 a2 a3 t bk N ky vl) (hnN : n ≤ N) (hk : k < 8) (H : post (qt_T ky vl k n)) : wpX_valueAt post (tl, now, nb, uw, cp, a1, a2, a3, a4, a5, a6, a7, a8, a9, a10, a11, a12, a13, a14, a15, a16, a17) (nI t) (nI n) (nI k) := by
  unfold wpX_valueAt
  exact qt_np_no T ht hT htl h7 hn he (br_t rfl (qt_bad_no hk (br_t rfl (qt_valueThen hF hL hnN hk H))))
theorem qt_valueAt_end {post : Int32 → Prop} {t n e : Nat} {x : Int32} (T : Nat) (ht : t < T) (hT : T ≤ 6) (htl : tl = nI T) (h7 : a7 t = nI e) (hn : e < n) (he : n ≤ 30) (H : post 0) : wpX_valueAt post (tl, now, nb, uw, cp, a1, a2, a3, a4, a5, a6, a7, a8, a9, a10, a11, a12, a13, a14, a15, a16, a17) (nI t) (nI n) x := by
  unfold wpX_valueAt
  exact qt_np_end T ht hT htl h7 hn he (br_f (by decide) H)
theorem qt_lastChange {post : Int32 → Prop} {bk N n k e : Nat} {kk : Nat → Nat} {d : Int32} (T : Nat) (ht : 0 < T) (hT : T ≤ 6) (htl : tl = nI T) (h7 : a7 0 = nI e) (hn : n ≤ e) (he : e ≤ 30) (hF : qt_F a5 a6 0 bk) (hL : qt_L a1 a2 a3 0 bk N (qt_y0 kk) (qt_v0 kk d)) (hnN : n ≤ N) (hk : k < 8) (H : post (qt_C kk d k n)) : wpX_lastChange post (tl, now, nb, uw, cp, a1, a2, a3, a4, a5, a6, a7, a8, a9, a10, a11, a12, a13, a14, a15, a16, a17) (nI 0) (nI n) (nI k) := by
  have go : ∀ p, p ≤ n → qt_V kk d p k = qt_V kk d n k → qt_C kk d k p = qt_C kk d k n → wX_lastChange_34 post (nI 0) (nI k) (qt_V kk d n k) tl now nb uw cp a1 a2 a3 a4 a5 a6 a7 a8 a9 a10 a11 a12 a13 a14 a15 a16 a17 (p + 1) (nI p) := by
    intro p
    induction p with
    | zero =>
      intro _ _ hc
      refine br_t (by decide) ?_
      rw [← hc] at H
      exact H
    | succ p ih =>
      intro hp hv hc
      refine br_f (nI_nle (by omega) (by omega)) ?_
      rw [nI_pred]
      refine qt_valueThen hF hL (by omega) hk ?_
      rw [qt_T0]
      refine br_c (fun z => nm_r (pk_m1 p) (ih (by omega) z ?_)) (fun z => ?_)
      · rw [← hc, qt_Cq (z.trans hv.symm)]
      · rw [← hc, qt_Cn (fun w => z (w.trans hv))] at H
        exact H
  unfold wpX_lastChange
  refine qt_bad_no hk (br_t rfl (qt_np_no T ht hT htl h7 hn he (br_t rfl (qt_valueThen hF hL hnN hk ⟨n + 1, ?_⟩))))
  rw [qt_T0]
  exact go n (Nat.le_refl n) rfl rfl
theorem qt_differs {post : Int32 → Prop} {t bk N n e : Nat} {ky : Nat → Nat} {vl : Nat → Int32} (T : Nat) (ht : t < T) (hT : T ≤ 6) (htl : tl = nI T) (h7 : a7 t = nI e) (hn : n ≤ e) (he : e ≤ 30) (hF : qt_F a5 a6 t bk) (hL : qt_L a1 a2 a3 t bk N ky vl) (hnN : n ≤ N) (hm : ∀ k, k < 8 → a8 k = qt_T ky vl k n) (H : post 0) : wpX_differs post (tl, now, nb, uw, cp, a1, a2, a3, a4, a5, a6, a7, a8, a9, a10, a11, a12, a13, a14, a15, a16, a17) (nI t) (nI n) := by
  unfold wpX_differs
  refine qt_np_no T ht hT htl h7 hn he (br_t rfl ?_)
  exact pk_loop (σ := Unit) (fun f i _ => wX_differs_17 post (nI t) (nI n) tl now nb uw cp a1 a2 a3 a4 a5 a6 a7 a8 a9 a10 a11 a12 a13 a14 a15 a16 a17 f 0 (nI i)) (fun _ _ => True) 8 0 () (by omega) trivial
    (fun f _ _ => pk_le 8 8 (fun _ => H) (fun z => absurd z (by omega)))
    (fun f i _ hi _ hw => pk_le 8 i (fun z => absurd z (by omega)) (fun _ => qt_valueThen hF hL hnN hi ⟨pk_in i 8 hi, br_t (by rw [nI_clamp (by omega)]; exact (hm i hi).symm) (nm_r (nI_1 i) (hw () trivial))⟩))
theorem qt_point {post : Int32 → Prop} {w e : Nat} (hw : w < 6) (hnow : now = nI w) (h7 : a7 w = nI e) (H : post (nI e)) : wpX_point post (tl, now, nb, uw, cp, a1, a2, a3, a4, a5, a6, a7, a8, a9, a10, a11, a12, a13, a14, a15, a16, a17) := by
  subst hnow
  refine ⟨pk_in w 6 hw, ?_⟩
  rw [nI_clamp (by omega), h7]
  exact H
theorem qt_lastPoint {post : Int32 → Prop} {t e : Nat} (T : Nat) (ht : t < T) (hT : T ≤ 6) (htl : tl = nI T) (h7 : a7 t = nI e) (H : post (nI e)) : wpX_lastPoint post (tl, now, nb, uw, cp, a1, a2, a3, a4, a5, a6, a7, a8, a9, a10, a11, a12, a13, a14, a15, a16, a17) (nI t) := by
  subst htl
  refine br_f (nI_pos (by omega)) (pk_lt t T (fun _ => ⟨pk_in t 6 (by omega), ?_⟩) (fun z => absurd z (by omega)))
  rw [nI_clamp (by omega), h7]
  exact H
theorem qt_lastPoint_far {post : Int32 → Prop} {t : Nat} (T : Nat) (ht : T ≤ t) (hT : t ≤ 6) (htl : tl = nI T) (H : post (-4)) : wpX_lastPoint post (tl, now, nb, uw, cp, a1, a2, a3, a4, a5, a6, a7, a8, a9, a10, a11, a12, a13, a14, a15, a16, a17) (nI t) := by
  subst htl
  exact br_f (nI_pos (by omega)) (pk_lt t T (fun z => absurd z (by omega)) (fun _ => H))
end
end
section
/-! ===== doing changes over, crash, restore ===== -/
section
variable {tl now nb uw cp : Int32} {a1 a2 a3 a4 a5 a6 a7 a8 a9 a10 a11 a12 a13 a14 a15 a16 a17 : Nat → Int32}
theorem qt_L_le {t bk n N : Nat} {ky : Nat → Nat} {vl : Nat → Int32} (hL : qt_L a1 a2 a3 t bk N ky vl) (h : n ≤ N) : qt_L a1 a2 a3 t bk n ky vl :=
  ⟨Nat.le_trans h hL.1, fun p h1 h2 => hL.2 p h1 (Nat.le_trans h2 h)⟩
theorem qt_apply {post : St2 → Prop} {k : Nat} {v x : Int32} (hk : k < 8) (H : post (tl, now, nb, uw, cp, a1, a2, a3, a4, a5, a6, a7, upd a8 k v, upd a9 k x, a10, a11, a12, a13, a14, a15, a16, a17)) : wpX_apply post (tl, now, nb, uw, cp, a1, a2, a3, a4, a5, a6, a7, a8, a9, a10, a11, a12, a13, a14, a15, a16, a17) (nI k) v x :=
  ⟨pk_in k 8 hk, nm_r (e' := upd a8 k v) (by rw [nI_clamp (by omega)]) ⟨pk_in k 8 hk, nm_r (e' := upd a9 k x) (by rw [nI_clamp (by omega)]) H⟩⟩
theorem qt_86 {post : St2 → Prop} {J : Int32 → Int32 → Int32 → Int32 → Int32 → Int32 → (Nat → Int32) → (Nat → Int32) → (Nat → Int32) → (Nat → Int32) → (Nat → Int32) → (Nat → Int32) → (Nat → Int32) → (Nat → Int32) → (Nat → Int32) → (Nat → Int32) → (Nat → Int32) → (Nat → Int32) → (Nat → Int32) → (Nat → Int32) → (Nat → Int32) → (Nat → Int32) → (Nat → Int32) → Prop} {x1 x2 : Int32} {p e : Nat} (he : e < 186) (h3 : a3 e = -1) (H : J (nI (p + 1)) tl now nb uw cp a1 a2 a3 a4 a5 a6 a7 a8 a9 a10 a11 a12 a13 a14 a15 a16 a17) : wX_redo_86 post J x1 x2 (nI p) (nI e) tl now nb uw cp a1 a2 a3 a4 a5 a6 a7 a8 a9 a10 a11 a12 a13 a14 a15 a16 a17 :=
  ⟨pk_in e 186 he, br_t (by rw [nI_clamp (by omega), h3]; decide) (nm_r (nI_1 p) H)⟩
theorem qt_redo {post : St2 → Prop} {t bk n : Nat} {ky : Nat → Nat} {vl : Nat → Int32} (I : Nat → (Nat → Int32) → (Nat → Int32) → Prop) (hF : qt_F a5 a6 t bk) (hL : qt_L a1 a2 a3 t bk n ky vl) (h0 : I 0 a8 a9)
    (hs : ∀ q f g, q < n → I q f g → nI (q + 1) ≤ g (ky (q + 1)) → I (q + 1) f g)
    (hp : ∀ q f g, q < n → I q f g → ¬ nI (q + 1) ≤ g (ky (q + 1)) → I (q + 1) (upd f (ky (q + 1)) (vl (q + 1))) (upd g (ky (q + 1)) (nI (q + 1))))
    (H : ∀ f g, I n f g → post (tl, now, nb, uw, cp, a1, a2, a3, a4, a5, a6, a7, f, g, a10, a11, a12, a13, a14, a15, a16, a17)) : wpX_redo post (tl, now, nb, uw, cp, a1, a2, a3, a4, a5, a6, a7, a8, a9, a10, a11, a12, a13, a14, a15, a16, a17) (nI t) (nI n) := by
  have hn : n ≤ 30 := hL.1
  refine pk_loop (fun f q (s : (Nat → Int32) × (Nat → Int32)) => wX_redo_2 post (nI t) (nI n) f (nI (q + 1)) tl now nb uw cp a1 a2 a3 a4 a5 a6 a7 (s.1) (s.2) a10 a11 a12 a13 a14 a15 a16 a17) (fun q s => I q s.1 s.2) n 0 (a8, a9) (by omega) h0 ?_ ?_
  · intro f s h
    exact pk_lt n (n + 1) (fun _ => H s.1 s.2 h) (fun z => absurd z (by omega))
  · intro f q s hq hI hw
    obtain ⟨g1, g2, g3, g4⟩ := hL.2 (q + 1) (by omega) (by omega)
    have hE : qt_E t bk (q + 1) < 186 := qt_Elt (by omega)
    have c1 : (nI (qt_E t bk (q + 1))).toNatClampNeg = qt_E t bk (q + 1) := nI_clamp (by omega)
    have c2 : (nI (ky (q + 1))).toNatClampNeg = ky (q + 1) := nI_clamp (by omega)
    refine pk_lt n (q + 1) (fun z => absurd z (by omega)) (fun _ => qt_entry hF (by omega) (by omega) ?_)
    rw [c1, g2, g3, c2]
    refine ⟨pk_in _ 186 hE, pk_in _ 8 g1, br_c (fun z => qt_86 hE g4 (hw s (hs q s.1 s.2 hq hI z))) (fun z => ⟨pk_in _ 186 hE, pk_in _ 186 hE, qt_apply g1 ?_⟩)⟩
    dsimp only
    refine ⟨pk_in _ 186 hE, pk_in _ 186 hE, br_f ?_ (qt_86 hE g4 (hw (_, _) (hp q s.1 s.2 hq hI z)))⟩
    rw [g4, g2]
    exact qt_m1 g1
theorem qt_redo_any {post : St2 → Prop} {t bk n : Nat} {ky : Nat → Nat} {vl : Nat → Int32} (hF : qt_F a5 a6 t bk) (hL : qt_L a1 a2 a3 t bk n ky vl) (H : ∀ f g, post (tl, now, nb, uw, cp, a1, a2, a3, a4, a5, a6, a7, f, g, a10, a11, a12, a13, a14, a15, a16, a17)) : wpX_redo post (tl, now, nb, uw, cp, a1, a2, a3, a4, a5, a6, a7, a8, a9, a10, a11, a12, a13, a14, a15, a16, a17) (nI t) (nI n) :=
  qt_redo (fun _ _ _ => True) hF hL trivial (fun _ _ _ _ _ _ => trivial) (fun _ _ _ _ _ _ => trivial) (fun f g _ => H f g)
theorem qt_redo_val {post : St2 → Prop} {t bk n : Nat} {ky : Nat → Nat} {vl : Nat → Int32} (hF : qt_F a5 a6 t bk) (hL : qt_L a1 a2 a3 t bk n ky vl) (hm : ∀ k, k < 8 → ∃ m, m ≤ n ∧ a9 k = nI m ∧ a8 k = qt_T ky vl k m) (H : ∀ f g, (∀ k, k < 8 → f k = qt_T ky vl k n) → post (tl, now, nb, uw, cp, a1, a2, a3, a4, a5, a6, a7, f, g, a10, a11, a12, a13, a14, a15, a16, a17)) : wpX_redo post (tl, now, nb, uw, cp, a1, a2, a3, a4, a5, a6, a7, a8, a9, a10, a11, a12, a13, a14, a15, a16, a17) (nI t) (nI n) :=
  qt_redo (fun q f g => qt_J ky vl n q f g) hF hL (qt_J_0 hm)
    (fun q f g hq h hs => qt_J_skip hL.1 (hL.2 (q + 1) (by omega) (by omega)).1 hq h hs)
    (fun q f g hq h _ => qt_J_put hq h)
    (fun f g h => H f g (qt_J_end h))
theorem qt_crash {post : Int32 → St2 → Prop} {w e bk : Nat} {ky : Nat → Nat} {vl : Nat → Int32} (hw6 : w < 6) (hnow : now = nI w) (h7 : a7 w = nI e) (hF : qt_F a5 a6 w bk) (hL : qt_L a1 a2 a3 w bk e ky vl) (H : ∀ f g, post 0 (tl, now, nb, 0, cp, a1, a2, a3, a4, a5, a6, a7, f, g, a10, a11, a12, a13, a14, a15, a16, a17)) : wpX_crash post (tl, now, nb, uw, cp, a1, a2, a3, a4, a5, a6, a7, a8, a9, a10, a11, a12, a13, a14, a15, a16, a17) := by
  subst hnow
  refine pk_loop (fun f i (s : (Nat → Int32) × (Nat → Int32)) => wX_crash_2 post tl (nI w) nb uw cp f (nI i) a1 a2 a3 a4 a5 a6 a7 (s.1) (s.2) a10 a11 a12 a13 a14 a15 a16 a17) (fun _ _ => True) 8 0 (a8, a9) (by omega) trivial ?_ ?_
  · intro f s _
    refine pk_le 8 8 (fun _ => ⟨pk_in w 6 hw6, ?_⟩) (fun z => absurd z (by omega))
    rw [nI_clamp (show w < 2 ^ 31 by omega), h7]
    exact qt_redo_any hF hL (fun f g => H f g)
  · intro f i s hi _ hw
    exact pk_le 8 i (fun z => absurd z (by omega)) (fun _ => ⟨pk_in i 8 hi, pk_in i 8 hi, nm_e ⟨pk_in i 8 hi, pk_in i 8 hi, nm_e (nm_r (nI_1 i) (hw (_, _) trivial))⟩⟩)
/-- the one finished backup: number 0, of timeline 0, finished at point 7 -/
def qt_B (a12 a13 a15 : Nat → Int32) : Prop := a12 0 = 1 ∧ a12 1 = 0 ∧ a12 2 = 0 ∧ a12 3 = 0 ∧ a13 0 = 0 ∧ a15 0 = nI 7
theorem qt_usable {post : Int32 → Prop} {n : Nat} (hB : qt_B a12 a13 a15) (hn : n ≤ 30) (H : post (if 7 ≤ n then nI 0 else (-1))) : wpX_usable post (tl, now, nb, uw, cp, a1, a2, a3, a4, a5, a6, a7, a8, a9, a10, a11, a12, a13, a14, a15, a16, a17) (nI 0) (nI n) := by
  obtain ⟨b0, b1, b2, b3, b4, b5⟩ := hB
  have tail : ∀ x, post x → wX_usable_5 post (nI 0) (nI n) tl now nb uw cp a1 a2 a3 a4 a5 a6 a7 a8 a9 a10 a11 a12 a13 a14 a15 a16 a17 4 x (nI 1) := by
    intro x Hx
    refine loop_i (σ := Unit) (fun f i _ => wX_usable_5 post (nI 0) (nI n) tl now nb uw cp a1 a2 a3 a4 a5 a6 a7 a8 a9 a10 a11 a12 a13 a14 a15 a16 a17 f x (nI i)) (fun i _ => 1 ≤ i) 4 ?_ ?_ 4 1 () (by omega) (by omega) (Nat.le_refl 1)
    · exact fun f _ _ => pk_le 4 4 (fun _ => Hx) (fun z => absurd z (by omega))
    · intro f i _ hi h1 hw
      refine pk_le 4 i (fun z => absurd z (by omega)) (fun _ => ⟨pk_in i 4 hi, br_t ?_ (nm_r (nI_1 i) (hw () (by omega)))⟩)
      rw [nI_clamp (by omega)]
      have h : i = 1 ∨ i = 2 ∨ i = 3 := by omega
      rcases h with rfl | rfl | rfl
      · exact b1
      · exact b2
      · exact b3
  have c0 : (nI 0).toNatClampNeg = 0 := nI_clamp (by omega)
  refine ⟨5, pk_le 4 0 (fun z => absurd z (by omega)) (fun _ => ⟨pk_in 0 4 (by omega), br_f (fun z => absurd (b0.symm.trans z) (by decide)) ⟨pk_in 0 4 (by omega), pk_in 0 4 (by omega), ⟨1, ?_⟩⟩⟩)⟩
  refine pk_le 6 0 (fun z => absurd z (by omega)) (fun _ => pk_eq 0 0 (fun _ => pk_eq 0 0 (fun _ => pk_lt n 7 (fun z => ?_) (fun z => ?_) rfl b5) (fun z => absurd rfl z) rfl b4) (fun z => absurd rfl z) rfl b4)
  · rw [if_neg (by omega)] at H
    exact br_t rfl (nm_r (nI_1 0) (tail (-1) H))
  · rw [if_pos (by omega)] at H
    exact br_f (by decide) (br_t (by decide) (nm_r (nI_1 0) (tail (nI 0) H)))
theorem qt_restore {post : Int32 → St2 → Prop} {T n e bk N : Nat} {ky : Nat → Nat} {vl : Nat → Int32} (hT : 0 < T) (hT6 : T < 6) (htl : tl = nI T) (h7 : a7 0 = nI e) (hn : n ≤ e) (he : e ≤ 30) (hF : qt_F a5 a6 0 bk) (hL : qt_L a1 a2 a3 0 bk N ky vl) (hnN : n ≤ N) (hB : qt_B a12 a13 a15)
    (hS : ∀ k, k < 8 → ∃ m, m ≤ 7 ∧ a17 k = nI m ∧ a16 k = qt_T ky vl k m)
    (H : ∀ f g f' g', (∀ k, k < 8 → f k = qt_T ky vl k n) → post (nI T) (nI (T + 1), nI T, nb, 0, cp, a1, a2, a3, a4, upd a5 T (nI 0), upd a6 T (nI n), upd a7 T (nI n), f, g, f', g', a12, a13, a14, a15, a16, a17)) :
    wpX_restore post (tl, now, nb, uw, cp, a1, a2, a3, a4, a5, a6, a7, a8, a9, a10, a11, a12, a13, a14, a15, a16, a17) (nI 0) (nI n) := by
  subst htl
  have cT : (nI T).toNatClampNeg = T := nI_clamp (by omega)
  have r110 : ∀ f g, (∀ k, k < 8 → f k = qt_T ky vl k n) → ∃ u, wX_restore_110 post (nI 0) (nI n) (nI T) now nb uw cp u 0 a1 a2 a3 a4 a5 a6 a7 f g a10 a11 a12 a13 a14 a15 a16 a17 := by
    intro f g hf
    refine pk_loop (fun u i (s : (Nat → Int32) × (Nat → Int32)) => wX_restore_110 post (nI 0) (nI n) (nI T) now nb uw cp u (nI i) a1 a2 a3 a4 a5 a6 a7 f g (s.1) (s.2) a12 a13 a14 a15 a16 a17) (fun _ _ => True) 8 0 (a10, a11) (by omega) trivial ?_ ?_
    · intro u s _
      exact pk_le 8 8 (fun _ => ⟨pk_in T 6 hT6, nm_r (e' := upd a5 T (nI 0)) (by rw [cT]) ⟨pk_in T 6 hT6, nm_r (e' := upd a6 T (nI n)) (by rw [cT]) ⟨pk_in T 6 hT6, nm_r (e' := upd a7 T (nI n)) (by rw [cT]) (nm_r (nI_1 T) (H f g s.1 s.2 hf))⟩⟩⟩) (fun z => absurd z (by omega))
    · intro u i s hi _ hw
      exact pk_le 8 i (fun z => absurd z (by omega)) (fun _ => ⟨pk_in i 8 hi, pk_in i 8 hi, nm_e ⟨pk_in i 8 hi, pk_in i 8 hi, nm_e (nm_r (nI_1 i) (hw (_, _) trivial))⟩⟩)
  have fin : ∀ x u f g, (∀ k, k < 8 → ∃ m, m ≤ n ∧ g k = nI m ∧ f k = qt_T ky vl k m) → wX_restore_34 post (nI 0) (nI n) x (nI T) now nb uw cp (u + 1) (nI 8) a1 a2 a3 a4 a5 a6 a7 f g a10 a11 a12 a13 a14 a15 a16 a17 :=
    fun x u f g hm => pk_le 8 8 (fun _ => qt_redo_val hF (qt_L_le hL hnN) hm (fun f g hf => r110 f g hf)) (fun z => absurd z (by omega))
  unfold wpX_restore
  refine qt_np_no T hT (by omega) rfl h7 hn he (br_t rfl (pk_eq T 6 (fun z => absurd z (by omega)) (fun _ => qt_usable hB (by omega) ?_)))
  by_cases hc : 7 ≤ n
  · rw [if_pos hc]
    refine pk_loop (fun u i (s : (Nat → Int32) × (Nat → Int32)) => wX_restore_34 post (nI 0) (nI n) (nI 0) (nI T) now nb uw cp u (nI i) a1 a2 a3 a4 a5 a6 a7 (s.1) (s.2) a10 a11 a12 a13 a14 a15 a16 a17) (fun i s => ∀ k, k < i → s.1 k = a16 k ∧ s.2 k = a17 k) 8 0 (a8, a9) (by omega) (fun k hk => absurd hk (by omega)) ?_ ?_
    · intro u s h
      refine fin _ u s.1 s.2 (fun k hk => ?_)
      obtain ⟨m, m1, m2, m3⟩ := hS k hk
      exact ⟨m, by omega, by rw [(h k hk).2, m2], by rw [(h k hk).1, m3]⟩
    · intro u i s hi h hw
      have e8 : nI 0 * 8 + nI i = nI i := by rw [qt_8, show 0 * 8 + i = i by omega]
      have ci : (nI i).toNatClampNeg = i := nI_clamp (by omega)
      refine pk_le 8 i (fun z => absurd z (by omega)) (fun _ => br_t (by decide) ?_)
      rw [e8, ci]
      refine ⟨pk_in i 32 (by omega), ⟨pk_in i 8 hi, nm_r (e' := upd s.1 i (a16 i)) (by rw [ci]) (br_t (by decide) ?_)⟩⟩
      rw [e8, ci]
      refine ⟨pk_in i 32 (by omega), pk_in i 8 hi, nm_e (nm_r (nI_1 i) (hw (_, _) (fun k hk => ?_)))⟩
      by_cases ek : k = i
      · subst ek
        exact ⟨pk_us, pk_us⟩
      · have := h k (by omega)
        exact ⟨(pk_un ek).trans this.1, (pk_un ek).trans this.2⟩
  · rw [if_neg hc]
    refine pk_loop (fun u i (s : (Nat → Int32) × (Nat → Int32)) => wX_restore_34 post (nI 0) (nI n) (-1) (nI T) now nb uw cp u (nI i) a1 a2 a3 a4 a5 a6 a7 (s.1) (s.2) a10 a11 a12 a13 a14 a15 a16 a17) (fun i s => ∀ k, k < i → s.1 k = 0 ∧ s.2 k = 0) 8 0 (a8, a9) (by omega) (fun k hk => absurd hk (by omega)) ?_ ?_
    · intro u s h
      refine fin _ u s.1 s.2 (fun k hk => ⟨0, by omega, by rw [(h k hk).2]; rfl, by rw [(h k hk).1]; rfl⟩)
    · intro u i s hi h hw
      have ci : (nI i).toNatClampNeg = i := nI_clamp (by omega)
      refine pk_le 8 i (fun z => absurd z (by omega)) (fun _ => br_f (by decide) ⟨pk_in i 8 hi, nm_r (e' := upd s.1 i 0) (by rw [ci]) (br_f (by decide) ⟨pk_in i 8 hi, nm_r (e' := upd s.2 i 0) (by rw [ci]) (nm_r (nI_1 i) (hw (_, _) (fun k hk => ?_)))⟩)⟩)
      by_cases ek : k = i
      · subst ek
        exact ⟨pk_us, pk_us⟩
      · have := h k (by omega)
        exact ⟨(pk_un ek).trans this.1, (pk_un ek).trans this.2⟩
theorem qt_restore_far {post : Int32 → St2 → Prop} {t : Nat} {x : Int32} (T : Nat) (ht : T ≤ t) (hT : t ≤ 6) (htl : tl = nI T) (H : post (-4) (tl, now, nb, uw, cp, a1, a2, a3, a4, a5, a6, a7, a8, a9, a10, a11, a12, a13, a14, a15, a16, a17)) : wpX_restore post (tl, now, nb, uw, cp, a1, a2, a3, a4, a5, a6, a7, a8, a9, a10, a11, a12, a13, a14, a15, a16, a17) (nI t) x := by
  unfold wpX_restore
  exact qt_np_far T ht hT htl (br_f (by decide) H)
theorem qt_restore_end {post : Int32 → St2 → Prop} {t n e : Nat} (T : Nat) (ht : t < T) (hT : T ≤ 6) (htl : tl = nI T) (h7 : a7 t = nI e) (hn : e < n) (he : n ≤ 30) (H : post (-4) (tl, now, nb, uw, cp, a1, a2, a3, a4, a5, a6, a7, a8, a9, a10, a11, a12, a13, a14, a15, a16, a17)) : wpX_restore post (tl, now, nb, uw, cp, a1, a2, a3, a4, a5, a6, a7, a8, a9, a10, a11, a12, a13, a14, a15, a16, a17) (nI t) (nI n) := by
  unfold wpX_restore
  exact qt_np_end T ht hT htl h7 hn he (br_f (by decide) H)
end
end
section
/-! ===== the methods that write ===== -/
section
variable {tl now nb uw cp : Int32} {a1 a2 a3 a4 a5 a6 a7 a8 a9 a10 a11 a12 a13 a14 a15 a16 a17 : Nat → Int32}
theorem qt_change {post : Int32 → St2 → Prop} {w e k : Nat} {v : Int32} (hw : w < 6) (hnow : now = nI w) (h7 : a7 w = nI e) (he : e < 30) (hk : k < 8)
    (H : post (nI (e + 1)) (tl, now, nb, uw, cp, upd a1 (w * 31 + (e + 1)) (nI k), upd a2 (w * 31 + (e + 1)) v, upd a3 (w * 31 + (e + 1)) (-1), upd a4 (w * 31 + (e + 1)) 0, a5, a6, upd a7 w (nI (e + 1)), upd a8 k v, upd a9 k (nI (e + 1)), a10, a11, a12, a13, a14, a15, a16, a17)) :
    wpX_change post (tl, now, nb, uw, cp, a1, a2, a3, a4, a5, a6, a7, a8, a9, a10, a11, a12, a13, a14, a15, a16, a17) (nI k) v (-1) 0 := by
  subst hnow
  have cw : (nI w).toNatClampNeg = w := nI_clamp (by omega)
  have ci : (nI (w * 31 + (e + 1))).toNatClampNeg = w * 31 + (e + 1) := nI_clamp (by omega)
  have hi : w * 31 + (e + 1) < 186 := by omega
  refine ⟨pk_in w 6 hw, pk_eq e 30 (fun z => absurd z (by omega)) (fun _ => ⟨pk_in w 6 hw, pk_in w 6 hw, nm_r (e' := upd a7 w (nI (e + 1))) (by rw [cw, h7, nI_1]) ⟨pk_in w 6 hw, nm_r (e' := nI (e + 1)) (by rw [cw, pk_us]) (nm_r (qt_31 w (e + 1)) ?_)⟩⟩) (by rw [cw, h7])⟩
  refine ⟨pk_in _ 186 hi, nm_r (e' := upd a1 (w * 31 + (e + 1)) (nI k)) (by rw [ci]) ⟨pk_in _ 186 hi, nm_r (e' := upd a2 (w * 31 + (e + 1)) v) (by rw [ci]) ⟨pk_in _ 186 hi, nm_r (e' := upd a3 (w * 31 + (e + 1)) (-1)) (by rw [ci]) ⟨pk_in _ 186 hi, nm_r (e' := upd a4 (w * 31 + (e + 1)) 0) (by rw [ci]) (qt_apply hk (br_t (by decide) H))⟩⟩⟩⟩
theorem qt_set {post : Int32 → St2 → Prop} {w e k : Nat} {v : Int32} (hw : w < 6) (hnow : now = nI w) (h7 : a7 w = nI e) (he : e < 30) (hk : k < 8)
    (H : post (nI (e + 1)) (tl, now, nb, uw, cp, upd a1 (w * 31 + (e + 1)) (nI k), upd a2 (w * 31 + (e + 1)) v, upd a3 (w * 31 + (e + 1)) (-1), upd a4 (w * 31 + (e + 1)) 0, a5, a6, upd a7 w (nI (e + 1)), upd a8 k v, upd a9 k (nI (e + 1)), a10, a11, a12, a13, a14, a15, a16, a17)) :
    wpX_set post (tl, now, nb, uw, cp, a1, a2, a3, a4, a5, a6, a7, a8, a9, a10, a11, a12, a13, a14, a15, a16, a17) (nI k) v := by
  unfold wpX_set
  exact qt_bad_no hk (br_t rfl (qt_change hw hnow h7 he hk H))
theorem qt_add {post : Int32 → St2 → Prop} {w e k : Nat} {x : Int32} (hw : w < 6) (hnow : now = nI w) (h7 : a7 w = nI e) (he : e < 30) (hk : k < 8)
    (H : post (nI (e + 1)) (tl, now, nb, uw, cp, upd a1 (w * 31 + (e + 1)) (nI k), upd a2 (w * 31 + (e + 1)) (a8 k + x), upd a3 (w * 31 + (e + 1)) (-1), upd a4 (w * 31 + (e + 1)) 0, a5, a6, upd a7 w (nI (e + 1)), upd a8 k (a8 k + x), upd a9 k (nI (e + 1)), a10, a11, a12, a13, a14, a15, a16, a17)) :
    wpX_add post (tl, now, nb, uw, cp, a1, a2, a3, a4, a5, a6, a7, a8, a9, a10, a11, a12, a13, a14, a15, a16, a17) (nI k) x := by
  unfold wpX_add
  refine qt_bad_no hk (br_t rfl ⟨pk_in k 8 hk, ?_⟩)
  rw [nI_clamp (show k < 2 ^ 31 by omega)]
  exact qt_change hw hnow h7 he hk H
theorem qt_writeOut {post : Int32 → St2 → Prop} {x : Int32} (Q : Nat → Int32 → Int32 → Prop) (hm : ∀ k, k < 8 → Q k (a8 k) (a9 k)) (hd : ∀ k, k < 8 → Q k (a10 k) (a11 k)) (H : ∀ r f g, (∀ k, k < 8 → Q k (f k) (g k)) → post r (tl, now, nb, uw, cp, a1, a2, a3, a4, a5, a6, a7, a8, a9, f, g, a12, a13, a14, a15, a16, a17)) : wpX_writeOut post (tl, now, nb, uw, cp, a1, a2, a3, a4, a5, a6, a7, a8, a9, a10, a11, a12, a13, a14, a15, a16, a17) x := by
  refine pk_loop (fun n i (s : Int32 × (Nat → Int32) × (Nat → Int32)) => wX_writeOut_4 post tl now nb uw cp n s.1 (nI i) a1 a2 a3 a4 a5 a6 a7 a8 a9 (s.2.1) (s.2.2) a12 a13 a14 a15 a16 a17) (fun _ s => ∀ k, k < 8 → Q k (s.2.1 k) (s.2.2 k)) 8 0 (x, a10, a11) (by omega) hd ?_ ?_
  · exact fun n s h => pk_le 8 8 (fun _ => H s.1 s.2.1 s.2.2 h) (fun z => absurd z (by omega))
  · intro n i s hi h hw
    have ci : (nI i).toNatClampNeg = i := nI_clamp (by omega)
    refine pk_le 8 i (fun z => absurd z (by omega)) (fun _ => br_c (fun _ => H s.1 s.2.1 s.2.2 h) (fun _ => ⟨pk_in i 8 hi, pk_in i 8 hi, br_c (fun _ => nm_r (nI_1 i) (hw s h)) (fun _ => ⟨pk_in i 8 hi, pk_in i 8 hi, nm_r (e' := upd s.2.1 i (a8 i)) (by rw [ci]) ⟨pk_in i 8 hi, pk_in i 8 hi, nm_r (e' := upd s.2.2 i (a9 i)) (by rw [ci]) (nm_e (nm_r (nI_1 i) (hw (_, _, _) (fun k hk => ?_))))⟩⟩)⟩))
    by_cases ek : k = i
    · subst ek
      show Q k (upd s.2.1 k (a8 k) k) (upd s.2.2 k (a9 k) k)
      rw [pk_us, pk_us]
      exact hm k hk
    · show Q k (upd s.2.1 i (a8 i) k) (upd s.2.2 i (a9 i) k)
      rw [pk_un ek, pk_un ek]
      exact h k hk
theorem qt_flush {post : Int32 → St2 → Prop} {m : Nat} (Q : Nat → Int32 → Int32 → Prop) (hm8 : m ≤ 8) (hm : ∀ k, k < 8 → Q k (a8 k) (a9 k)) (hd : ∀ k, k < 8 → Q k (a10 k) (a11 k)) (H : ∀ f g, (∀ k, k < 8 → Q k (f k) (g k)) → post 0 (tl, now, nb, uw, cp, a1, a2, a3, a4, a5, a6, a7, a8, a9, f, g, a12, a13, a14, a15, a16, a17)) : wpX_flush post (tl, now, nb, uw, cp, a1, a2, a3, a4, a5, a6, a7, a8, a9, a10, a11, a12, a13, a14, a15, a16, a17) (nI m) :=
  br_f (nI_pos (by omega)) (pk_le m 8 (fun _ => qt_writeOut Q hm hd (fun _ f g h => H f g h)) (fun z => absurd z (by omega)))
theorem qt_begin {post : St2 → Prop} {b : Nat} (Q : Nat → Int32 → Int32 → Prop) (hb : b < 4) (hnb : nb = nI b) (hnow : now = nI 0) (hm : ∀ k, k < 8 → Q k (a8 k) (a9 k)) (hd : ∀ k, k < 8 → Q k (a10 k) (a11 k)) (H : ∀ f g, (∀ k, k < 8 → Q k (f k) (g k)) → post (tl, now, nb, 1, 0, a1, a2, a3, a4, a5, a6, a7, a8, a9, f, g, upd a12 b 0, upd a13 b now, upd a14 b (a7 0), a15, a16, a17)) : wpX_beginBackup post (tl, now, nb, uw, cp, a1, a2, a3, a4, a5, a6, a7, a8, a9, a10, a11, a12, a13, a14, a15, a16, a17) := by
  subst hnb
  subst hnow
  have cb : (nI b).toNatClampNeg = b := nI_clamp (by omega)
  unfold wpX_beginBackup
  refine qt_writeOut Q hm hd (fun _ f g h => ?_)
  exact ⟨pk_in b 4 hb, nm_r (e' := upd a12 b 0) (by rw [cb]) ⟨pk_in b 4 hb, nm_r (e' := upd a13 b (nI 0)) (by rw [cb]) ⟨pk_in 0 6 (by omega), pk_in b 4 hb, nm_r (e' := upd a14 b (a7 0)) (by rw [cb]; rfl) (H f g h)⟩⟩⟩
theorem qt_b25 {post : Int32 → St2 → Prop} {b c e m : Nat} (Q : Nat → Int32 → Int32 → Prop) (hb : b < 4) (hnb : nb = nI b) (he1 : e ≤ m) (he2 : c + e ≤ 8) (he3 : e = m ∨ c + e = 8) (hm8 : m ≤ 8) (hd : ∀ k, k < 8 → Q k (a10 k) (a11 k)) (hs : ∀ j, j < c → Q j (a16 (b * 8 + j)) (a17 (b * 8 + j)))
    (H : ∀ f g, (∀ j, j < b * 8 → f j = a16 j ∧ g j = a17 j) → (∀ j, j < c + e → Q j (f (b * 8 + j)) (g (b * 8 + j))) → wX_backup_107 post tl now nb uw (nI (c + e)) a1 a2 a3 a4 a5 a6 a7 a8 a9 a10 a11 a12 a13 a14 a15 f g) : ∃ u, wX_backup_25 post (nI m) tl now nb uw u 0 (nI c) a1 a2 a3 a4 a5 a6 a7 a8 a9 a10 a11 a12 a13 a14 a15 a16 a17 := by
  subst hnb
  refine pk_loop (fun u i (s : (Nat → Int32) × (Nat → Int32)) => wX_backup_25 post (nI m) tl now (nI b) uw u (nI i) (nI (c + i)) a1 a2 a3 a4 a5 a6 a7 a8 a9 a10 a11 a12 a13 a14 a15 (s.1) (s.2)) (fun i s => (∀ j, j < b * 8 → s.1 j = a16 j ∧ s.2 j = a17 j) ∧ (∀ j, j < c + i → Q j (s.1 (b * 8 + j)) (s.2 (b * 8 + j)))) e 0 (a16, a17) (by omega) ⟨fun _ _ => ⟨rfl, rfl⟩, hs⟩ ?_ ?_
  · intro u s h
    exact pk_le m e (fun _ => H s.1 s.2 h.1 h.2) (fun z => pk_le 8 (c + e) (fun _ => H s.1 s.2 h.1 h.2) (fun z' => absurd he3 (by omega)))
  · intro u i s hi h hw
    have ei : nI b * 8 + nI (c + i) = nI (b * 8 + (c + i)) := qt_8 b (c + i)
    have ci : (nI (b * 8 + (c + i))).toNatClampNeg = b * 8 + (c + i) := nI_clamp (by omega)
    have cc : (nI (c + i)).toNatClampNeg = c + i := nI_clamp (by omega)
    refine pk_le m i (fun z => absurd z (by omega)) (fun _ => pk_le 8 (c + i) (fun z => absurd z (by omega)) (fun _ => ?_))
    rw [ei, ci, cc]
    refine ⟨pk_in (c + i) 8 (by omega), pk_in (b * 8 + (c + i)) 32 (by omega), nm_e ⟨pk_in (c + i) 8 (by omega), pk_in (b * 8 + (c + i)) 32 (by omega), nm_e (nm_r (nI_1 (c + i)) (nm_r (nI_1 i) (hw (_, _) ⟨fun j hj => ?_, fun j hj => ?_⟩)))⟩⟩
    · have := h.1 j hj
      exact ⟨(pk_un (by omega)).trans this.1, (pk_un (by omega)).trans this.2⟩
    · show Q j (upd s.1 (b * 8 + (c + i)) (a10 (c + i)) (b * 8 + j)) (upd s.2 (b * 8 + (c + i)) (a11 (c + i)) (b * 8 + j))
      by_cases ej : j = c + i
      · subst ej
        rw [pk_us, pk_us]
        exact hd (c + i) (by omega)
      · rw [pk_un (by omega), pk_un (by omega)]
        exact h.2 j (by omega)
theorem qt_107_no {post : Int32 → St2 → Prop} {c : Nat} (hc : c < 8) (H : post 0 (tl, now, nb, uw, nI c, a1, a2, a3, a4, a5, a6, a7, a8, a9, a10, a11, a12, a13, a14, a15, a16, a17)) : wX_backup_107 post tl now nb uw (nI c) a1 a2 a3 a4 a5 a6 a7 a8 a9 a10 a11 a12 a13 a14 a15 a16 a17 :=
  pk_eq c 8 (fun z => absurd z (by omega)) (fun _ => H)
theorem qt_107_yes {post : Int32 → St2 → Prop} (H : post 0 (tl, nI 0, nI 1, 0, nI 8, a1, a2, a3, a4, a5, a6, a7, a8, a9, a10, a11, upd a12 0 1, a13, a14, upd a15 0 (a7 0), a16, a17)) : wX_backup_107 post tl (nI 0) (nI 0) uw (nI 8) a1 a2 a3 a4 a5 a6 a7 a8 a9 a10 a11 a12 a13 a14 a15 a16 a17 :=
  pk_eq 8 8 (fun _ => ⟨pk_in 0 4 (by omega), nm_r (e' := upd a12 0 1) rfl ⟨pk_in 0 6 (by omega), pk_in 0 4 (by omega), nm_r (e' := upd a15 0 (a7 0)) rfl (nm_r (e' := nI 1) (by decide) H)⟩⟩) (fun z => absurd rfl z)
theorem qt_backup_on {post : Int32 → St2 → Prop} {m : Nat} (hm : m ≤ 8) (hu : ¬ uw = 0) (H : ∃ u, wX_backup_25 post (nI m) tl now nb uw u 0 cp a1 a2 a3 a4 a5 a6 a7 a8 a9 a10 a11 a12 a13 a14 a15 a16 a17) : wpX_backup post (tl, now, nb, uw, cp, a1, a2, a3, a4, a5, a6, a7, a8, a9, a10, a11, a12, a13, a14, a15, a16, a17) (nI m) :=
  br_f (nI_pos (by omega)) (pk_le m 8 (fun _ => br_f hu H) (fun z => absurd z (by omega)))
theorem qt_backup_off {post : Int32 → St2 → Prop} {m b : Nat} (Q : Nat → Int32 → Int32 → Prop) (hm8 : m ≤ 8) (hu : uw = 0) (hb : b < 4) (hnb : nb = nI b) (hnow : now = nI 0) (hm : ∀ k, k < 8 → Q k (a8 k) (a9 k)) (hd : ∀ k, k < 8 → Q k (a10 k) (a11 k)) (H : ∀ f g, (∀ k, k < 8 → Q k (f k) (g k)) → ∃ u, wX_backup_25 post (nI m) tl now nb 1 u 0 0 a1 a2 a3 a4 a5 a6 a7 a8 a9 f g (upd a12 b 0) (upd a13 b now) (upd a14 b (a7 0)) a15 a16 a17) : wpX_backup post (tl, now, nb, uw, cp, a1, a2, a3, a4, a5, a6, a7, a8, a9, a10, a11, a12, a13, a14, a15, a16, a17) (nI m) :=
  br_f (nI_pos (by omega)) (pk_le m 8 (fun _ => br_t hu (qt_begin Q hb hnb hnow hm hd (fun f g h => H f g h))) (fun z => absurd z (by omega)))
end
end
section
/-! ===== the law's last loop: the checks ===== -/
/-- a value with its point: the value of its key at that point -/
def qt_Q (kk : Nat → Nat) (d : Int32) (c k : Nat) (v x : Int32) : Prop := ∃ m, m ≤ c ∧ x = nI m ∧ v = qt_V kk d m k
theorem qt_Q_le {kk : Nat → Nat} {d : Int32} {c c' k : Nat} {v x : Int32} (h : qt_Q kk d c k v x) (hc : c ≤ c') : qt_Q kk d c' k v x := by
  obtain ⟨m, h1, h2, h3⟩ := h
  exact ⟨m, by omega, h2, h3⟩
/-- the state after the first restore: bk the point gone back to, g the key that is set, j the sets so far -/
def qt_R (kk : Nat → Nat) (d : Int32) (bk g j : Nat) (tl now : Int32) (a1 a2 a3 a5 a6 a7 a12 a13 a15 a16 a17 : Nat → Int32) : Prop :=
  tl = nI 2 ∧ now = nI 1 ∧ qt_F a5 a6 1 bk ∧ a7 0 = nI 8 ∧ a7 1 = nI (bk + j) ∧ qt_L a1 a2 a3 0 bk 8 (qt_y0 kk) (qt_v0 kk d) ∧ qt_L a1 a2 a3 1 bk (bk + j) (qt_y1 kk bk g) (qt_v1 kk d bk) ∧ qt_B a12 a13 a15 ∧ (∀ k, k < 8 → qt_Q kk d 7 k (a16 k) (a17 k))
/-- the key of point i + 1 -/
def qt_k (x0 : Int32) (i : Nat) : Nat := ((x0 >>> (nI (3 * i) &&& 31)) &&& 7).toNatClampNeg
theorem qt_k_and (x0 : Int32) (i : Nat) : qt_k x0 i < 8 ∧ (x0 >>> (nI (3 * i) &&& 31)) &&& 7 = nI (qt_k x0 i) := by
  obtain ⟨j, hj, e⟩ := pk_andE (x0 >>> (nI (3 * i) &&& 31)) (m := 7) 3 (by decide)
  have h : qt_k x0 i = j := by
    unfold qt_k
    rw [e]
    exact nI_clamp (by omega)
  rw [h]
  exact ⟨hj, e⟩
theorem qt_key1 (x0 : Int32) (i : Nat) : (x0 >>> ((3 * nI i) &&& 31)) &&& 7 = nI (qt_k x0 i) := by
  have e : 3 * nI i = nI (3 * i) := pk_mul 3 i
  rw [e]
  exact (qt_k_and x0 i).2
theorem qt_key2 (x0 : Int32) (p : Nat) : (x0 >>> (((3 * nI (p + 1)) - 3) &&& 31)) &&& 7 = nI (qt_k x0 p) := by
  have e : 3 * nI (p + 1) - 3 = nI (3 * p) := by
    have e1 : 3 * nI (p + 1) = nI (3 * (p + 1)) := pk_mul 3 (p + 1)
    have e2 : nI (3 * (p + 1)) - 3 = nI (3 * (p + 1) - 3) := pk_sub (b := 3) (by omega)
    rw [e1, e2, show 3 * (p + 1) - 3 = 3 * p by omega]
  rw [e]
  exact (qt_k_and x0 p).2
theorem qt_F01 {a5 a6 : Nat → Int32} {bk : Nat} (h : qt_F a5 a6 1 bk) : qt_F a5 a6 0 bk := ⟨h.1, h.2.1, Or.inl rfl⟩
theorem qt_av (v d : Int32) (p : Nat) : v + d + nI (p + 1) - 1 = v + (d + nI p) := by
  rw [nI_succ]
  grind
theorem qt_ad (d : Int32) (p : Nat) : d + nI (p + 1) - 1 = d + nI p := by
  rw [nI_succ]
  grind
section
variable {tl now nb uw cp : Int32} {a1 a2 a3 a4 a5 a6 a7 a8 a9 a10 a11 a12 a13 a14 a15 a16 a17 : Nat → Int32} {post : Int32 → St0 → Prop} {mc ms kc ks : Nat} {J : Int32 → Int32 → Int32 → Int32 → Int32 → Prop} {x0 x3 d : Int32} {kk : Nat → Nat} {bk g j k i : Nat}
theorem qt_433 {x1 x5 x6 x7 x9 x11 x12 x13 z0 z1 : Int32} (h : z1 = z0) (H : J 1 x11 x12 x13 (nI (i + 1))) : wL_lawOf_433 post mc ms J x0 x1 x5 x6 x7 x9 x11 x12 x13 (nI i) z0 z1 kc ks tl now nb uw cp a1 a2 a3 a4 a5 a6 a7 a8 a9 a10 a11 a12 a13 a14 a15 a16 a17 :=
  br_t h (nm_r (nI_1 i) H)
theorem qt_341 (hi : i ≤ 8) (hk : k < 8) (hg : g < 8) (hj : j ≤ 7) (hR : qt_R kk d bk g j tl now a1 a2 a3 a5 a6 a7 a12 a13 a15 a16 a17)
    (H : J 1 (qt_V kk d i k) (if bk < i + 1 then qt_V kk d bk k else 0) (qt_C kk d k i) (nI (i + 1))) :
    wL_lawOf_341 post mc ms J x0 d (nI bk) (nI k) (nI j) (nI g) 1 (qt_V kk d i k) (qt_C kk d k i) (nI i) (if bk < i + 1 then qt_V kk d bk k else 0) kc ks tl now nb uw cp a1 a2 a3 a4 a5 a6 a7 a8 a9 a10 a11 a12 a13 a14 a15 a16 a17 := by
  obtain ⟨htl, hnow, hF, h70, h71, hL0, hL1, hB, hS⟩ := hR
  have hbk : bk ≤ 8 := hF.1
  refine br_f (by decide) (qt_valueAt (t := 0) (e := 8) 2 (by omega) (by omega) htl h70 hi (by omega) (qt_F01 hF) hL0 hi hk (br_t (qt_T0 kk d k i) (qt_lastChange (e := 8) 2 (by omega) (by omega) htl h70 hi (by omega) (qt_F01 hF) hL0 hi hk (br_t rfl ?_))))
  by_cases hc : i ≤ bk + j
  · refine qt_valueAt (t := 1) (e := bk + j) 2 (by omega) (by omega) htl h71 hc (by omega) hF hL1 hc hk ?_
    refine pk_lt bk i (fun z => pk_le i (bk + j) (fun _ => pk_eq k g (fun e => ?_) (fun e => ?_)) (fun z => absurd z (by omega)) rfl (nI_add bk j)) (fun z => ?_)
    · refine qt_433 ?_ H
      obtain ⟨q, rfl⟩ : ∃ q, i = bk + (q + 1) := ⟨i - bk - 1, by omega⟩
      rw [qt_T1hi, if_pos e, pk_sub (by omega), show bk + (q + 1) - bk = q + 1 by omega, nI_pred]
    · refine qt_433 ?_ H
      obtain ⟨q, rfl⟩ : ∃ q, i = bk + (q + 1) := ⟨i - bk - 1, by omega⟩
      rw [qt_T1hi, if_neg e, if_pos (by omega)]
    · refine qt_433 ?_ H
      exact qt_T1lo kk d bk g k i z
  · refine qt_valueAt_end (t := 1) (e := bk + j) 2 (by omega) (by omega) htl h71 (by omega) (by omega) ?_
    exact pk_lt bk i (fun z => pk_le i (bk + j) (fun z => absurd z (by omega)) (fun _ => qt_433 rfl H) rfl (nI_add bk j)) (fun z => absurd z (by omega))
theorem qt_327 (hi : i ≤ 8) (hk : k < 8) (hg : g < 8) (hj : j ≤ 7) (hR : qt_R kk d bk g j tl now a1 a2 a3 a5 a6 a7 a12 a13 a15 a16 a17)
    (H : J 1 (qt_V kk d i k) (if bk < i + 1 then qt_V kk d bk k else 0) (qt_C kk d k i) (nI (i + 1))) :
    wL_lawOf_327 post mc ms J x0 d (nI bk) (nI k) (nI j) (nI g) 1 (qt_V kk d i k) (if bk < i then qt_V kk d bk k else 0) (qt_C kk d k i) (nI i) kc ks tl now nb uw cp a1 a2 a3 a4 a5 a6 a7 a8 a9 a10 a11 a12 a13 a14 a15 a16 a17 := by
  have hbk : bk ≤ 8 := hR.2.2.1.1
  have h := qt_341 (post := post) (mc := mc) (ms := ms) (kc := kc) (ks := ks) (x0 := x0) (nb := nb) (uw := uw) (cp := cp) (a4 := a4) (a8 := a8) (a9 := a9) (a10 := a10) (a11 := a11) (a14 := a14) hi hk hg hj hR H
  refine pk_eq i bk (fun e => ?_) (fun e => ?_)
  · rw [if_pos (by omega), ← e] at h
    rw [← e]
    exact h
  · by_cases hc : bk < i
    · rw [if_pos (by omega)] at h
      rw [if_pos hc]
      exact h
    · rw [if_neg (by omega)] at h
      rw [if_neg hc]
      exact h
theorem qt_281 {p : Nat} (hi : p + 1 ≤ 8) (hk : k < 8) (hg : g < 8) (hj : j ≤ 7) (hR : qt_R kk d bk g j tl now a1 a2 a3 a5 a6 a7 a12 a13 a15 a16 a17) {z0 : Int32} (hz : z0 = if kk p = k then 1 else 0)
    (H : J 1 (qt_V kk d (p + 1) k) (if bk < p + 1 + 1 then qt_V kk d bk k else 0) (qt_C kk d k (p + 1)) (nI (p + 1 + 1))) :
    wL_lawOf_281 post mc ms J x0 d (nI bk) (nI k) (nI j) (nI g) 1 (qt_V kk d p k) (if bk < p + 1 then qt_V kk d bk k else 0) (qt_C kk d k p) (nI (p + 1)) z0 kc ks tl now nb uw cp a1 a2 a3 a4 a5 a6 a7 a8 a9 a10 a11 a12 a13 a14 a15 a16 a17 := by
  have h := qt_327 (post := post) (mc := mc) (ms := ms) (kc := kc) (ks := ks) (x0 := x0) (nb := nb) (uw := uw) (cp := cp) (a4 := a4) (a8 := a8) (a9 := a9) (a10 := a10) (a11 := a11) (a14 := a14) hi hk hg hj hR H
  by_cases e : kk p = k
  · rw [if_pos e] at hz
    subst hz
    rw [qt_Vs, if_pos e, ← qt_av] at h
    refine br_f (by decide) ?_
    rw [qt_ad]
    refine br_c (fun c => ?_) (fun c => ?_)
    · have eC : qt_C kk d k (p + 1) = qt_C kk d k p := if_neg (fun w => w.2 c)
      rw [eC] at h
      exact br_f (by decide) h
    · have eC : qt_C kk d k (p + 1) = nI (p + 1) := if_pos ⟨e, c⟩
      rw [eC] at h
      exact br_f (by decide) h
  · rw [if_neg e] at hz
    subst hz
    have eC : qt_C kk d k (p + 1) = qt_C kk d k p := if_neg (fun w => e w.1)
    rw [qt_Vs, if_neg e, eC] at h
    exact br_t rfl (br_t rfl h)
end
end
section
/-! ===== the law's three loops ===== -/
section
variable {tl now nb uw cp : Int32} {a1 a2 a3 a4 a5 a6 a7 a8 a9 a10 a11 a12 a13 a14 a15 a16 a17 : Nat → Int32} {post : Int32 → St0 → Prop} {mc ms kc ks : Nat} {x0 x3 d : Int32} {bk g j k : Nat}
theorem qt_exit {x13 : Int32} {n : Nat} {kk : Nat → Nat} (hpost : post 1 ()) (hk : k < 8) (hj : j ≤ 7) (hR : qt_R kk d bk g j tl now a1 a2 a3 a5 a6 a7 a12 a13 a15 a16 a17) :
    wL_lawOf_248 post mc ms x0 d (nI bk) (nI k) (nI j) (nI g) kc ks tl now nb uw cp a1 a2 a3 a4 a5 a6 a7 a8 a9 a10 a11 a12 a13 a14 a15 a16 a17 (n + 1) 1 (qt_V kk d 8 k) (qt_V kk d bk k) x13 (nI 9) := by
  obtain ⟨htl, hnow, hF, h70, h71, hL0, hL1, hB, hS⟩ := hR
  have hbk : bk ≤ 8 := hF.1
  refine pk_le 9 9 (fun _ => qt_restore (T := 2) (e := 8) (n := 8) (by omega) (by omega) htl h70 (by omega) (by omega) (qt_F01 hF) hL0 (by omega) hB (fun k hk => ?_) (fun f q f' q' hf => ?_)) (fun z => absurd z (by omega))
  · obtain ⟨m, m1, m2, m3⟩ := hS k hk
    exact ⟨m, m1, m2, by rw [m3, qt_T0]⟩
  · dsimp only
    have f0 : upd a7 2 (nI 8) 0 = nI 8 := (pk_un (by omega)).trans h70
    have f1 : upd a7 2 (nI 8) 1 = nI (bk + j) := (pk_un (by omega)).trans h71
    have f2 : upd a7 2 (nI 8) 2 = nI 8 := pk_us
    have hF' : qt_F (upd a5 2 (nI 0)) (upd a6 2 (nI 8)) 1 bk := by
      obtain ⟨w1, w2, w3⟩ := hF
      refine ⟨w1, (pk_un (by omega)).trans w2, Or.inr ?_⟩
      rcases w3 with w | ⟨_, w4, w5⟩
      · exact absurd w (by omega)
      · exact ⟨rfl, (pk_un (by omega)).trans w4, (pk_un (by omega)).trans w5⟩
    refine br_f (by decide) (br_t rfl (qt_get hk (br_t (by rw [hf k hk, qt_T0]) (qt_differs (t := 0) (e := 8) (n := 8) 3 (by omega) (by omega) rfl f0 (by omega) (by omega) (qt_F01 hF') hL0 (by omega) hf (br_t rfl (qt_point (w := 2) (by omega) rfl f2 (br_t rfl (qt_valueAt (t := 1) (e := bk + j) 3 (by omega) (by omega) rfl f1 (by omega) (by omega) hF' hL1 (by omega) hk (br_t (qt_T1lo kk d bk g k bk (by omega)) (qt_get_8 (br_t rfl (qt_restore_far (t := 3) 3 (by omega) (by omega) rfl (br_t rfl ?_)))))))))))))
    dsimp only
    have e : nI bk + nI j + 1 = nI (bk + j + 1) := by rw [nI_add, nI_1]
    rw [e]
    exact qt_restore_end (t := 1) (e := bk + j) 3 (by omega) (by omega) rfl f1 (by omega) (by omega) (br_t rfl hpost)
theorem qt_loop248 (hpost : post 1 ()) (hk : k < 8) (hg : g < 8) (hj : j ≤ 7) (hR : qt_R (qt_k x0) d bk g j tl now a1 a2 a3 a5 a6 a7 a12 a13 a15 a16 a17) :
    ∀ f i, i + f = 9 → wL_lawOf_248 post mc ms x0 d (nI bk) (nI k) (nI j) (nI g) kc ks tl now nb uw cp a1 a2 a3 a4 a5 a6 a7 a8 a9 a10 a11 a12 a13 a14 a15 a16 a17 (f + 1) 1 (qt_V (qt_k x0) d (i - 1) k) (if bk < i then qt_V (qt_k x0) d bk k else 0) (qt_C (qt_k x0) d k (i - 1)) (nI i) := by
  have hbk : bk ≤ 8 := hR.2.2.1.1
  intro f
  induction f with
  | zero =>
    intro i hi
    obtain rfl : i = 9 := by omega
    rw [if_pos (by omega)]
    exact qt_exit hpost hk hj hR
  | succ f ih =>
    intro i hi
    have h := ih (i + 1) (by omega)
    rw [show i + 1 - 1 = i by omega] at h
    refine pk_le 9 i (fun z => absurd z (by omega)) (fun _ => pk_le i 0 (fun z => ?_) (fun z => ?_))
    · obtain rfl : i = 0 := by omega
      exact qt_327 (by omega) hk hg hj hR h
    · obtain ⟨p, rfl⟩ : ∃ p, i = p + 1 := ⟨i - 1, by omega⟩
      rw [show p + 1 - 1 = p by omega]
      exact pk_eq (qt_k x0 p) k (fun e => qt_281 (by omega) hk hg hj hR (by rw [if_pos e]) h) (fun e => qt_281 (by omega) hk hg hj hR (by rw [if_neg e]) h) (qt_key2 x0 p) rfl (Nat.lt_trans (qt_k_and x0 p).1 (by omega))
theorem qt_R_set {kk : Nat → Nat} {i : Nat} {idx : Nat} (hidx : idx = 1 * 31 + (bk + i + 1)) (hg : g < 8) (hi : i ≤ 7) (hR : qt_R kk d bk g i tl now a1 a2 a3 a5 a6 a7 a12 a13 a15 a16 a17) :
    qt_R kk d bk g (i + 1) tl now (upd a1 idx (nI g)) (upd a2 idx (nI i)) (upd a3 idx (-1)) a5 a6 (upd a7 1 (nI (bk + i + 1))) a12 a13 a15 a16 a17 := by
  obtain ⟨htl, hnow, hF, h70, h71, hL0, hL1, hB, hS⟩ := hR
  have hbk : bk ≤ 8 := hF.1
  refine ⟨htl, hnow, hF, (pk_un (by omega)).trans h70, pk_us, ⟨by omega, fun p h1 h2 => ?_⟩, ⟨by omega, fun p h1 h2 => ?_⟩, hB, hS⟩
  · obtain ⟨u1, u2, u3, u4⟩ := hL0.2 p h1 h2
    have ne : qt_E 0 bk p ≠ idx := by
      rw [qt_E0]
      omega
    exact ⟨u1, (pk_un ne).trans u2, (pk_un ne).trans u3, (pk_un ne).trans u4⟩
  · by_cases hp : p = bk + (i + 1)
    · subst hp
      have e1 : qt_E 1 bk (bk + (i + 1)) = idx := by
        rw [qt_Ehi (by omega)]
        omega
      have e2 : qt_y1 kk bk g (bk + (i + 1)) = g := if_neg (by omega)
      have e3 : qt_v1 kk d bk (bk + (i + 1)) = nI i := by
        have e4 : bk + (i + 1) - bk - 1 = i := by omega
        have e5 : qt_v1 kk d bk (bk + (i + 1)) = nI (bk + (i + 1) - bk - 1) := if_neg (by omega)
        rw [e5, e4]
      rw [e1, e2, e3]
      exact ⟨hg, pk_us, pk_us, pk_us⟩
    · obtain ⟨u1, u2, u3, u4⟩ := hL1.2 p h1 (by omega)
      have ne : qt_E 1 bk p ≠ idx := by
        unfold qt_E
        split <;> omega
      exact ⟨u1, (pk_un ne).trans u2, (pk_un ne).trans u3, (pk_un ne).trans u4⟩
end
theorem qt_loop120 {post : Int32 → St0 → Prop} {mc ms kc ks : Nat} {x0 x3 d : Int32} {bk g k many : Nat} (hpost : post 1 ()) (hk : k < 8) (hg : g < 8) (hmany : many ≤ 7) (hx : (x3 >>> ((3 : Int32) &&& 31)) &&& 7 = nI g) :
    ∀ f i, i + f = 8 → ∀ (tl now nb uw cp : Int32) (a1 a2 a3 a4 a5 a6 a7 a8 a9 a10 a11 a12 a13 a14 a15 a16 a17 : Nat → Int32), qt_R (qt_k x0) d bk g (min i many) tl now a1 a2 a3 a5 a6 a7 a12 a13 a15 a16 a17 →
      wL_lawOf_120 post mc ms x0 d x3 (nI bk) (nI k) (nI many) (nI 1) kc ks (f + 1) (nI i) tl now nb uw cp a1 a2 a3 a4 a5 a6 a7 a8 a9 a10 a11 a12 a13 a14 a15 a16 a17 := by
  intro f
  induction f with
  | zero =>
    intro i hi tl now nb uw cp a1 a2 a3 a4 a5 a6 a7 a8 a9 a10 a11 a12 a13 a14 a15 a16 a17 hR
    obtain rfl : i = 8 := by omega
    rw [show min 8 many = many by omega] at hR
    have hR' := hR
    obtain ⟨htl, hnow, hF, h70, h71, hL0, hL1, hB, hS⟩ := hR
    refine pk_le 8 8 (fun _ => qt_crash (w := 1) (e := bk + many) (by omega) hnow h71 hF hL1 (fun f q => ?_)) (fun z => absurd z (by omega))
    dsimp only
    refine nm_r hx (br_t rfl (br_t hnow (qt_point (w := 1) (by omega) hnow h71 (br_t (nI_add bk many).symm (qt_lastPoint (t := 0) 2 (by omega) (by omega) htl h70 (br_t rfl (qt_lastPoint_far (t := 2) 2 (by omega) (by omega) htl (br_t rfl ⟨10, ?_⟩))))))))
    have h := qt_loop248 (mc := mc) (ms := ms) (kc := kc) (ks := ks) (nb := nb) (uw := 0) (cp := cp) (a4 := a4) (a8 := f) (a9 := q) (a10 := a10) (a11 := a11) (a14 := a14) hpost hk hg hmany hR' 9 0 (by omega)
    rw [if_neg (by omega)] at h
    exact h
  | succ f ih =>
    intro i hi tl now nb uw cp a1 a2 a3 a4 a5 a6 a7 a8 a9 a10 a11 a12 a13 a14 a15 a16 a17 hR
    have hbk : bk ≤ 8 := hR.2.2.1.1
    refine pk_le 8 i (fun z => absurd z (by omega)) (fun _ => pk_le many i (fun z => nm_r (nI_1 i) (ih (i + 1) (by omega) _ _ _ _ _ _ _ _ _ _ _ _ _ _ _ _ _ _ _ _ _ _ ?_)) (fun z => ?_))
    · rw [show min (i + 1) many = min i many by omega]
      exact hR
    · rw [show min i many = i by omega] at hR
      rw [hx]
      refine qt_set (w := 1) (e := bk + i) (by omega) hR.2.1 hR.2.2.2.2.1 (by omega) hg ?_
      dsimp only
      refine br_t (by rw [nI_add, nI_1]) (nm_r (nI_1 i) (ih (i + 1) (by omega) _ _ _ _ _ _ _ _ _ _ _ _ _ _ _ _ _ _ _ _ _ _ ?_))
      rw [show min (i + 1) many = i + 1 by omega]
      exact qt_R_set rfl hg (by omega) hR
end
section
/-! ===== the law's first loop: add, backup, flush ===== -/
/-- the state after c points, before the first restore -/
def qt_P (kk : Nat → Nat) (d : Int32) (bk c : Nat) (tl now : Int32) (a1 a2 a3 a5 a6 a7 a8 a9 a10 a11 : Nat → Int32) : Prop :=
  tl = nI 1 ∧ now = nI 0 ∧ qt_F a5 a6 0 bk ∧ a7 0 = nI c ∧ qt_L a1 a2 a3 0 bk c (qt_y0 kk) (qt_v0 kk d) ∧ (∀ k, k < 8 → qt_Q kk d c k (a8 k) (a9 k)) ∧ (∀ k, k < 8 → a8 k = qt_V kk d c k) ∧ (∀ k, k < 8 → qt_Q kk d c k (a10 k) (a11 k))
def qt_cp : Nat → Nat
  | 0 => 0 | 1 => 0 | 2 => 1 | 3 => 3 | 4 => 6 | 5 => 6 | 6 => 7 | 7 => 8 | _ => 3
def qt_sv : Nat → Nat
  | 0 => 0 | 1 => 0 | 2 => 1 | 3 => 3 | 4 => 6 | 5 => 6 | 6 => 7 | 7 => 8 | _ => 8
def qt_uw : Nat → Nat
  | 0 => 0 | 7 => 0 | _ => 1
def qt_nb (i : Nat) : Nat := if i < 7 then 0 else 1
/-- the backups after i turns -/
def qt_N (kk : Nat → Nat) (d : Int32) (i : Nat) (nb uw cp : Int32) (a12 a13 a15 a16 a17 : Nat → Int32) : Prop :=
  nb = nI (qt_nb i) ∧ uw = nI (qt_uw i) ∧ cp = nI (qt_cp i) ∧ (∀ j, j < qt_sv i → qt_Q kk d (min i 7) j (a16 j) (a17 j)) ∧ (7 ≤ i → a12 0 = 1 ∧ a15 0 = nI 7) ∧ a12 1 = 0 ∧ a12 2 = 0 ∧ a12 3 = 0 ∧ a13 0 = 0
theorem qt_mid : ∀ i, i < 6 → 1 ≤ i → qt_nb i = 0 ∧ qt_nb (i + 1) = 0 ∧ qt_uw i = 1 ∧ qt_uw (i + 1) = 1 ∧ qt_cp i + i % 4 = qt_cp (i + 1) ∧ qt_cp (i + 1) < 8 ∧ qt_sv i = qt_cp i ∧ qt_sv (i + 1) = qt_cp (i + 1) := by decide
section
variable {tl now nb uw cp : Int32} {a1 a2 a3 a4 a5 a6 a7 a8 a9 a10 a11 a12 a13 a14 a15 a16 a17 : Nat → Int32} {d : Int32} {kk : Nat → Nat} {bk c i : Nat}
theorem qt_P_add {idx : Nat} (hidx : idx = 0 * 31 + (c + 1)) (hc : c < 8) (hk : kk c < 8) (hP : qt_P kk d bk c tl now a1 a2 a3 a5 a6 a7 a8 a9 a10 a11) :
    qt_P kk d bk (c + 1) tl now (upd a1 idx (nI (kk c))) (upd a2 idx (a8 (kk c) + (d + nI c))) (upd a3 idx (-1)) a5 a6 (upd a7 0 (nI (c + 1))) (upd a8 (kk c) (a8 (kk c) + (d + nI c))) (upd a9 (kk c) (nI (c + 1))) a10 a11 := by
  obtain ⟨htl, hnow, hF, h7, hL, hM, hV, hD⟩ := hP
  have hv : a8 (kk c) + (d + nI c) = qt_V kk d (c + 1) (kk c) := by
    rw [hV (kk c) hk, qt_Vs, if_pos rfl]
  have hx : idx = c + 1 := by omega
  subst hx
  rw [hv]
  refine ⟨htl, hnow, hF, pk_us, ⟨by omega, fun p h1 h2 => ?_⟩, fun k hk8 => ?_, fun k hk8 => ?_, fun k hk8 => qt_Q_le (hD k hk8) (by omega)⟩
  · rw [qt_E0]
    by_cases hp : p = c + 1
    · subst hp
      exact ⟨hk, pk_us, pk_us, pk_us⟩
    · obtain ⟨u1, u2, u3, u4⟩ := hL.2 p h1 (by omega)
      rw [qt_E0] at u2 u3 u4
      exact ⟨u1, (pk_un hp).trans u2, (pk_un hp).trans u3, (pk_un hp).trans u4⟩
  · by_cases ek : k = kk c
    · rw [ek, pk_us, pk_us]
      exact ⟨c + 1, by omega, rfl, rfl⟩
    · rw [pk_un ek, pk_un ek]
      exact qt_Q_le (hM k hk8) (by omega)
  · by_cases ek : k = kk c
    · rw [ek, pk_us]
    · rw [pk_un ek, hV k hk8, qt_Vs, if_neg (fun z => ek z.symm)]
theorem qt_step {post : Int32 → St2 → Prop} (hi : i < 8) (hP : qt_P kk d bk (i + 1) tl now a1 a2 a3 a5 a6 a7 a8 a9 a10 a11) (hN : qt_N kk d i nb uw cp a12 a13 a15 a16 a17)
    (H : ∀ (nb' uw' cp' : Int32) (f10 f11 f12 f13 f14 f15 f16 f17 : Nat → Int32), qt_P kk d bk (i + 1) tl now a1 a2 a3 a5 a6 a7 a8 a9 f10 f11 → qt_N kk d (i + 1) nb' uw' cp' f12 f13 f15 f16 f17 → post 0 (tl, now, nb', uw', cp', a1, a2, a3, a4, a5, a6, a7, a8, a9, f10, f11, f12, f13, f14, f15, f16, f17)) :
    wpX_backup post (tl, now, nb, uw, cp, a1, a2, a3, a4, a5, a6, a7, a8, a9, a10, a11, a12, a13, a14, a15, a16, a17) (nI (i % 4)) := by
  obtain ⟨n1, n2, n3, n4, n5, n6, n7, n8, n9⟩ := hN
  have hP0 := hP
  obtain ⟨htl, hnow, hF, h7, hL, hM, hV, hD⟩ := hP
  have hPd : ∀ f q : Nat → Int32, (∀ k, k < 8 → qt_Q kk d (i + 1) k (f k) (q k)) → qt_P kk d bk (i + 1) tl now a1 a2 a3 a5 a6 a7 a8 a9 f q := fun f q h => ⟨htl, hnow, hF, h7, hL, hM, hV, h⟩
  have hcase : i = 0 ∨ (1 ≤ i ∧ i < 6) ∨ i = 6 ∨ i = 7 := by omega
  rcases hcase with rfl | ⟨h1, h6⟩ | rfl | rfl
  · refine qt_backup_off (m := 0) (b := 0) (fun k v x => qt_Q kk d 1 k v x) (by omega) n2 (by omega) n1 hnow hM hD (fun f q h => ?_)
    refine qt_b25 (b := 0) (c := 0) (e := 0) (m := 0) (fun k v x => qt_Q kk d 1 k v x) (by omega) n1 (by omega) (by omega) (Or.inl rfl) (by omega) h (fun j hj => absurd hj (by omega)) (fun f16 f17 _ hs => qt_107_no (by omega) ?_)
    exact H _ _ _ _ _ _ _ _ _ _ _ (hPd f q h) ⟨n1, rfl, rfl, fun j hj => absurd hj (by exact Nat.not_lt_zero j), fun z => absurd z (by omega), (pk_un (by omega)).trans n6, (pk_un (by omega)).trans n7, (pk_un (by omega)).trans n8, pk_us.trans hnow⟩
  · obtain ⟨t1, t2, t3, t4, t5, t6, t7, t8⟩ := qt_mid i h6 h1
    rw [t1] at n1
    rw [t3] at n2
    rw [t7] at n4
    subst n3
    refine qt_backup_on (by omega) (by rw [n2]; decide) (qt_b25 (b := 0) (c := qt_cp i) (e := i % 4) (fun k v x => qt_Q kk d (i + 1) k v x) (by omega) n1 (by omega) (by omega) (Or.inl rfl) (by omega) hD (fun j hj => ?_) (fun f16 f17 _ hs => qt_107_no (by omega) ?_))
    · have := n4 j hj
      rw [Nat.zero_mul, Nat.zero_add]
      exact qt_Q_le this (by omega)
    · refine H _ _ _ _ _ _ _ _ _ _ _ hP0 ⟨?_, ?_, ?_, fun j hj => ?_, fun z => absurd z (by omega), n6, n7, n8, n9⟩
      · rw [n1, t2]
      · rw [n2, t4]
      · rw [t5]
      · rw [t8, ← t5] at hj
        have := hs j hj
        rw [Nat.zero_mul, Nat.zero_add] at this
        rw [show min (i + 1) 7 = i + 1 by omega]
        exact this
  · subst n3
    subst hnow
    subst n1
    refine qt_backup_on (m := 2) (by omega) (by rw [n2]; decide) (qt_b25 (b := 0) (c := 7) (e := 1) (m := 2) (fun k v x => qt_Q kk d 7 k v x) (by omega) rfl (by omega) (by omega) (Or.inr rfl) (by omega) hD (fun j hj => ?_) (fun f16 f17 _ hs => qt_107_yes ?_))
    · have := n4 j hj
      rw [Nat.zero_mul, Nat.zero_add]
      exact qt_Q_le this (by omega)
    · refine H _ _ _ _ _ _ _ _ _ _ _ hP0 ⟨rfl, rfl, rfl, fun j hj => ?_, fun _ => ⟨pk_us, pk_us.trans h7⟩, (pk_un (by omega)).trans n6, (pk_un (by omega)).trans n7, (pk_un (by omega)).trans n8, n9⟩
      have := hs j hj
      rw [Nat.zero_mul, Nat.zero_add] at this
      exact this
  · have n5' := n5 (by omega)
    refine qt_backup_off (m := 3) (b := 1) (fun k v x => qt_Q kk d 8 k v x) (by omega) n2 (by omega) n1 hnow hM hD (fun f q h => ?_)
    refine qt_b25 (b := 1) (c := 0) (e := 3) (m := 3) (fun k v x => qt_Q kk d 8 k v x) (by omega) n1 (by omega) (by omega) (Or.inl rfl) (by omega) h (fun j hj => absurd hj (by omega)) (fun f16 f17 ho hs => qt_107_no (by omega) ?_)
    refine H _ _ _ _ _ _ _ _ _ _ _ (hPd f q h) ⟨n1, rfl, rfl, fun j hj => ?_, fun _ => ⟨(pk_un (by omega)).trans n5'.1, n5'.2⟩, pk_us, (pk_un (by omega)).trans n7, (pk_un (by omega)).trans n8, (pk_un (by omega)).trans n9⟩
    have hj8 : j < 8 := hj
    have := ho j (by omega)
    rw [this.1, this.2]
    exact n4 j hj8
end
theorem qt_loop35 {post : Int32 → St0 → Prop} {mc ms kc ks : Nat} {x0 x3 d : Int32} {bk g k many : Nat} (hpost : post 1 ()) (hbk : bk ≤ 8) (hk : k < 8) (hg : g < 8) (hmany : many ≤ 7) (hx : (x3 >>> ((3 : Int32) &&& 31)) &&& 7 = nI g) :
    ∀ f i, i + f = 8 → ∀ (tl now nb uw cp : Int32) (a1 a2 a3 a4 a5 a6 a7 a8 a9 a10 a11 a12 a13 a14 a15 a16 a17 : Nat → Int32), qt_P (qt_k x0) d bk i tl now a1 a2 a3 a5 a6 a7 a8 a9 a10 a11 → qt_N (qt_k x0) d i nb uw cp a12 a13 a15 a16 a17 →
      wL_lawOf_35 post mc ms x0 d x3 (nI bk) (nI k) (nI many) kc ks (f + 1) (nI i) tl now nb uw cp a1 a2 a3 a4 a5 a6 a7 a8 a9 a10 a11 a12 a13 a14 a15 a16 a17 := by
  intro f
  induction f with
  | zero =>
    intro i hi tl now nb uw cp a1 a2 a3 a4 a5 a6 a7 a8 a9 a10 a11 a12 a13 a14 a15 a16 a17 hP hN
    obtain rfl : i = 8 := by omega
    obtain ⟨htl, hnow, hF, h7, hL, hM, hV, hD⟩ := hP
    obtain ⟨n1, n2, n3, n4, n5, n6, n7, n8, n9⟩ := hN
    have n5' := n5 (by omega)
    have hB : qt_B a12 a13 a15 := ⟨n5'.1, n6, n7, n8, n9, n5'.2⟩
    refine pk_le 8 8 (fun _ => qt_crash (w := 0) (e := 8) (by omega) hnow h7 hF hL (fun f8 f9 => ?_)) (fun z => absurd z (by omega))
    dsimp only
    refine qt_restore (T := 1) (e := 8) (n := bk) (by omega) (by omega) htl h7 hbk (by omega) hF hL hbk hB (fun k hk => ?_) (fun m8 m9 m10 m11 _ => ⟨9, ?_⟩)
    · obtain ⟨m, m1, m2, m3⟩ := n4 k hk
      exact ⟨m, m1, m2, by rw [m3, qt_T0]⟩
    · dsimp only
      refine qt_loop120 hpost hk hg hmany hx 8 0 (by omega) _ _ _ _ _ _ _ _ _ _ _ _ _ _ _ _ _ _ _ _ _ _ ?_
      rw [Nat.zero_min]
      refine ⟨rfl, rfl, ⟨hbk, (pk_un (by omega)).trans hF.2.1, Or.inr ⟨rfl, pk_us, pk_us⟩⟩, (pk_un (by omega)).trans h7, pk_us, hL, ⟨by omega, fun p h1 h2 => ?_⟩, hB, n4⟩
      obtain ⟨u1, u2, u3, u4⟩ := hL.2 p h1 (by omega)
      rw [qt_E0] at u2 u3 u4
      have e1 : qt_y1 (qt_k x0) bk g p = qt_y0 (qt_k x0) p := if_pos h2
      have e2 : qt_v1 (qt_k x0) d bk p = qt_v0 (qt_k x0) d p := if_pos h2
      have e3 : qt_E 1 bk p = p := qt_Elo h2
      rw [e3, e1, e2]
      exact ⟨u1, u2, u3, u4⟩
  | succ f ih =>
    intro i hi tl now nb uw cp a1 a2 a3 a4 a5 a6 a7 a8 a9 a10 a11 a12 a13 a14 a15 a16 a17 hP hN
    have hkk := (qt_k_and x0 i).1
    refine pk_le 8 i (fun z => absurd z (by omega)) (fun _ => nm_r (qt_key1 x0 i) (qt_add (w := 0) (e := i) (by omega) hP.2.1 hP.2.2.2.1 (by omega) hkk ?_))
    dsimp only
    refine br_t (nI_1 i).symm ?_
    rw [pk_andN (n := i) (by omega) (m := 3) 2 (by decide)]
    refine qt_step (kk := qt_k x0) (d := d) (bk := bk) (i := i) (by omega) (qt_P_add rfl (by omega) hkk hP) hN (fun nb' uw' cp' f10 f11 f12 f13 f14 f15 f16 f17 hP' hN' => ?_)
    dsimp only
    obtain ⟨m, hm, em⟩ := pk_andE (x3 >>> (nI i &&& 31)) (m := 1) 1 (by decide)
    rw [em]
    refine qt_flush (fun k v x => qt_Q (qt_k x0) d (i + 1) k v x) (by omega) hP'.2.2.2.2.2.1 hP'.2.2.2.2.2.2.2 (fun f q h => ?_)
    dsimp only
    refine nm_r (nI_1 i) (ih (i + 1) (by omega) _ _ _ _ _ _ _ _ _ _ _ _ _ _ _ _ _ _ _ _ _ _ ?_ hN')
    obtain ⟨w1, w2, w3, w4, w5, w6, w7, w8⟩ := hP'
    exact ⟨w1, w2, w3, w4, w5, w6, w7, h⟩
end
section
/-! ===== the top ===== -/
theorem qt_lawOf {post : Int32 → St0 → Prop} (hpost : post 1 ()) (p0 p1 p2 p3 : Int32) : wpL_lawOf post 18 896 () p0 p1 p2 p3 := by
  obtain ⟨b, hb, eb⟩ := pk_andE p2 (m := 15) 4 (by decide)
  obtain ⟨k, hk, ek⟩ := pk_andE (p2 >>> ((4 : Int32) &&& 31)) (m := 7) 3 (by decide)
  obtain ⟨y, hy, ey⟩ := pk_andE p3 (m := 7) 3 (by decide)
  obtain ⟨g, hg, eg⟩ := pk_andE (p3 >>> ((3 : Int32) &&& 31)) (m := 7) 3 (by decide)
  have e5 : (p2 &&& 15) - (p2 &&& 15) / 9 * 9 = nI (b % 9) := by
    rw [eb]
    exact pk_rem (d := 9) (by omega) (by omega) (by omega)
  refine ⟨by omega, by omega, 17, 874, by omega, by omega, ?_⟩
  unfold wpX_init
  refine ⟨by omega, by omega, by omega, by omega, by omega, by omega, by omega, by omega, by omega, by omega, by omega, by omega, by omega, by omega, by omega, by omega, by omega, by omega, by omega, by omega, by omega, by omega, by omega, by omega, by omega, by omega, by omega, by omega, by omega, by omega, by omega, by omega, by omega, by omega, nm_e ?_⟩
  dsimp only
  refine ⟨by decide, nm_r e5 (nm_r ek (nm_r ey ⟨9, ?_⟩))⟩
  refine qt_loop35 hpost (by omega) (by omega) (by omega) (by omega) eg 8 0 (by omega) _ _ _ _ _ _ _ _ _ _ _ _ _ _ _ _ _ _ _ _ _ _ ?_ ?_
  · exact ⟨rfl, rfl, ⟨by omega, rfl, Or.inl rfl⟩, rfl, ⟨by omega, fun p h1 h2 => absurd h1 (by omega)⟩, fun k _ => ⟨0, by omega, rfl, rfl⟩, fun k _ => rfl, fun k _ => ⟨0, by omega, rfl, rfl⟩⟩
  · exact ⟨rfl, rfl, rfl, fun j hj => absurd hj (Nat.not_lt_zero j), fun z => absurd z (by omega), rfl, rfl, rfl, rfl⟩
theorem qt_cell {post : Int32 → Prop} {L : Nat} {xs : Nat → Int32} (hL : L ≤ 4) (c : Nat) (hc : c < 4) (H : ∀ r, post r) : wpL_cellAt post L xs () (nI c) :=
  pk_le L c (fun _ => H 0) (fun z => ⟨pk_in c L z, H _⟩)
theorem i_vc (xs : Nat → Int32) (L : Nat) (hL : L ≤ 4) : wpL_law (fun r => r = 1) L xs := by
  unfold wpL_law
  exact qt_cell hL 0 (by omega) (fun r1 => qt_cell hL 1 (by omega) (fun r2 => qt_cell hL 2 (by omega) (fun r3 => qt_cell hL 3 (by omega) (fun r4 => ⟨18, 896, by omega, by omega, qt_lawOf rfl r1 r2 r3 r4⟩))))
end
