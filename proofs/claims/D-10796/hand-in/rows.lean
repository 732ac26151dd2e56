section
/-- a degree as the class keeps it: one less than d -/
def qf_dg (d : Nat) : Int32 := nI d + (-1)
theorem qf_dg0 : qf_dg 0 = -1 := by decide
theorem qf_dgS (k : Nat) : qf_dg (k + 1) = nI k := pk_m1 k
theorem qf_dgT {d : Nat} (h : d < 2 ^ 31) : (qf_dg d).toInt = (d : Int) - 1 := by
  cases d with
  | zero => decide
  | succ k =>
    rw [qf_dgS, nI_toInt (by omega)]
    omega
/-- a test of two ints whose values are known -/
theorem qf_lt {x y : Int32} {A B : Prop} (a b : Int) (hx : x.toInt = a) (hy : y.toInt = b) (f : a < b → A) (g : b ≤ a → B) : (x < y → A) ∧ (¬ x < y → B) := by
  subst hx hy
  rw [Int32.lt_iff_toInt_lt]
  exact ⟨f, fun z => g (by omega)⟩
theorem qf_le {x y : Int32} {A B : Prop} (a b : Int) (hx : x.toInt = a) (hy : y.toInt = b) (f : a ≤ b → A) (g : b < a → B) : (x ≤ y → A) ∧ (¬ x ≤ y → B) := by
  subst hx hy
  rw [Int32.le_iff_toInt_le]
  exact ⟨f, fun z => g (by omega)⟩
theorem qf_ix (p i : Nat) : nI p * 40 + nI i = nI (p * 40 + i) := by
  rw [show (40 : Int32) = nI 40 from rfl, pk_mul, nI_add]
theorem qf_ix0 (p : Nat) : nI p * 40 = nI (p * 40) := by
  rw [show (40 : Int32) = nI 40 from rfl, pk_mul]
theorem qf_ixd {p d : Nat} (h : 0 < p * 40 + d) : nI p * 40 + qf_dg d = nI (p * 40 + d - 1) := by
  unfold qf_dg
  rw [qf_ix0, ← Int32.add_assoc, nI_add, sb_m1 h]
/-- every degree is one of -1 .. 39 -/
def qf_D (a2 : Nat → Int32) : Prop := ∀ r, r < 24 → ∃ d, d ≤ 40 ∧ a2 r = qf_dg d
/-- polynomial r is the constant v -/
def qf_P (a1 a2 : Nat → Int32) (r v : Nat) : Prop := v < 101 ∧ a1 (r * 40) = nI v ∧ (∀ j, 0 < j → j < 40 → a1 (r * 40 + j) = 0) ∧ a2 r = qf_dg (min v 1)
/-- the state matches the picture m -/
def qf_Q (m : Nat → Option Nat) (a1 a2 : Nat → Int32) : Prop := qf_D a2 ∧ ∀ r v, r < 24 → m r = some v → qf_P a1 a2 r v
def qf_set (m : Nat → Option Nat) (p : Nat) (o : Option Nat) : Nat → Option Nat := fun r => if r = p then o else m r
def qf_N : Nat → Option Nat := fun _ => none
/-- s is a1 outside of block t -/
def qf_F (s a1 : Nat → Int32) (t : Nat) : Prop := ∀ j, j < t * 40 ∨ t * 40 + 40 ≤ j → s j = a1 j
theorem qf_QN {a1 a2 : Nat → Int32} (h : qf_D a2) : qf_Q qf_N a1 a2 := ⟨h, fun r v _ e => nomatch e⟩
theorem qf_ss {m : Nat → Option Nat} {p : Nat} {o o' : Option Nat} : qf_set (qf_set m p o) p o' = qf_set m p o' := by
  funext r
  unfold qf_set
  by_cases h : r = p
  · rw [if_pos h, if_pos h]
  · rw [if_neg h, if_neg h, if_neg h]
theorem qf_Fr (a1 : Nat → Int32) (t : Nat) : qf_F a1 a1 t := fun _ _ => rfl
theorem qf_Fu {s a1 : Nat → Int32} {t k : Nat} {x : Int32} (h : qf_F s a1 t) (h1 : t * 40 ≤ k) (h2 : k < t * 40 + 40) : qf_F (upd s k x) a1 t := by
  intro j hj
  rw [pk_un (by omega)]
  exact h j hj
theorem qf_Ft {s a b : Nat → Int32} {t : Nat} (h : qf_F s a t) (h' : qf_F a b t) : qf_F s b t := fun j hj => (h j hj).trans (h' j hj)
/-- another block's place -/
theorem qf_Fo {s a1 : Nat → Int32} {t r j : Nat} (h : qf_F s a1 t) (hr : r ≠ t) (hj : j < 40) : s (r * 40 + j) = a1 (r * 40 + j) := h _ (by omega)
theorem qf_Dset {a2 : Nat → Int32} {t d : Nat} (h : qf_D a2) (hd : d ≤ 40) : qf_D (upd a2 t (qf_dg d)) := by
  intro r hr
  by_cases e : r = t
  · exact ⟨d, hd, by rw [e, pk_us]⟩
  · rw [pk_un e]
    exact h r hr
/-- block t and its degree are written: the picture's entry t becomes o -/
theorem qf_Qset {m : Nat → Option Nat} {a1 a2 s : Nat → Int32} {t d : Nat} {o : Option Nat} (h : qf_Q m a1 a2) (hf : qf_F s a1 t) (hd : d ≤ 40)
    (ho : ∀ v, o = some v → v < 101 ∧ s (t * 40) = nI v ∧ (∀ j, 0 < j → j < 40 → s (t * 40 + j) = 0) ∧ d = min v 1) :
    qf_Q (qf_set m t o) s (upd a2 t (qf_dg d)) := by
  refine ⟨qf_Dset h.1 hd, fun r v hr e => ?_⟩
  by_cases et : r = t
  · subst et
    unfold qf_set at e
    rw [if_pos rfl] at e
    obtain ⟨h1, h2, h3, h4⟩ := ho v e
    exact ⟨h1, h2, h3, by rw [pk_us, h4]⟩
  · unfold qf_set at e
    rw [if_neg et] at e
    obtain ⟨h1, h2, h3, h4⟩ := h.2 r v hr e
    refine ⟨h1, ?_, fun j j0 j1 => ?_, ?_⟩
    · exact (qf_Fo (j := 0) hf et (by omega)).trans h2
    · rw [qf_Fo hf et j1]
      exact h3 j j0 j1
    · rw [pk_un et]
      exact h4
/-- block t is written, its degree is not -/
theorem qf_Qw {m : Nat → Option Nat} {a1 a2 s : Nat → Int32} {t : Nat} (h : qf_Q m a1 a2) (hf : qf_F s a1 t) : qf_Q (qf_set m t none) s a2 := by
  refine ⟨h.1, fun r v hr e => ?_⟩
  by_cases et : r = t
  · subst et
    unfold qf_set at e
    rw [if_pos rfl] at e
    exact nomatch e
  · unfold qf_set at e
    rw [if_neg et] at e
    obtain ⟨h1, h2, h3, h4⟩ := h.2 r v hr e
    refine ⟨h1, ?_, fun j j0 j1 => ?_, h4⟩
    · exact (qf_Fo (j := 0) hf et (by omega)).trans h2
    · rw [qf_Fo hf et j1]
      exact h3 j j0 j1
/-- the remainder of two known numbers below 2^31 -/
theorem qf_rem {a : Nat} (h : a < 2 ^ 31) : nI a - nI a / 101 * 101 = nI (a % 101) := pk_rem (d := 101) h (by omega) (by omega)
theorem qf_rem0 : (0 : Int32) - 0 / 101 * 101 = 0 := by decide
theorem qf_101 : ¬ (101 : Int32) = 0 := by decide
/-- the next place of a block -/
theorem qf_next {s : Nat → Int32} {b i : Nat} {x : Int32} {g : Nat → Int32} (h : ∀ j, j < i → s (b + j) = g j) (hx : x = g i) : ∀ j, j < i + 1 → upd s (b + i) x (b + j) = g j := by
  intro j hj
  by_cases e : j = i
  · rw [e, pk_us, hx]
  · rw [pk_un (by omega)]
    exact h j (by omega)
end
section
/-- clear: block p becomes 0, its degree -1 -/
theorem qf_clear {post : St2 → Prop} {c : Int32} {a1 a2 a3 : Nat → Int32} {x : Int32} (p : Nat) (H : ∀ s, (∀ j, j < 40 → s (p * 40 + j) = 0) → qf_F s a1 p → post (c, s, upd a2 p (qf_dg 0), a3))
    (hx : x = nI p := by rfl) (hp : p < 24 := by decide) : wpX_clear post (c, a1, a2, a3) x := by
  subst hx
  exact pk_loop (fun n i s => wX_clear_2 post (nI p) c n (nI i) s a2 a3) (fun i s => (∀ j, j < i → s (p * 40 + j) = 0) ∧ qf_F s a1 p) 40 0 a1 (by omega) ⟨fun j hj => absurd hj (by omega), qf_Fr a1 p⟩
    (fun n s h => pk_le 40 40 (fun _ => ⟨pk_in p 24 hp, nm_r (by rw [nI_clamp (by omega), qf_dg0]) (H s h.1 h.2)⟩) (fun z => absurd z (by omega)))
    (fun n i s hi h hw => pk_le 40 i (fun z => absurd z (by omega)) (fun _ => ⟨pk_in (p * 40 + i) 960 (by omega) (qf_ix p i), nm_r (by rw [pk_cl (p * 40 + i) (qf_ix p i)])
      (nm_r (nI_1 i) (hw _ ⟨qf_next (g := fun _ => 0) h.1 rfl, qf_Fu h.2 (by omega) (by omega)⟩))⟩))
theorem qf_clearQ {post : St2 → Prop} {c : Int32} {m : Nat → Option Nat} {a1 a2 a3 : Nat → Int32} {x : Int32} (p : Nat) (h : qf_Q m a1 a2)
    (H : ∀ s b, qf_Q (qf_set m p (some 0)) s b → (∀ j, j < 40 → s (p * 40 + j) = 0) → qf_F s a1 p → (∀ r, r ≠ p → b r = a2 r) → post (c, s, b, a3))
    (hx : x = nI p := by rfl) (hp : p < 24 := by decide) : wpX_clear post (c, a1, a2, a3) x := by
  refine qf_clear p (fun s hs hf => H s _ (qf_Qset h hf (by omega) ?_) hs hf (fun r hr => pk_un hr)) hx hp
  intro v e
  obtain rfl := Option.some.inj e
  exact ⟨by omega, (hs 0 (by omega)).trans nI_0.symm, fun j _ hj => hs j hj, rfl⟩
/-- constantTo: block p becomes the constant v -/
theorem qf_const {post : St2 → Prop} {c : Int32} {m : Nat → Option Nat} {a1 a2 a3 : Nat → Int32} {x y : Int32} (p v : Nat) (h : qf_Q m a1 a2)
    (H : ∀ s b, qf_Q (qf_set m p (some v)) s b → (∀ r, r ≠ p → b r = a2 r) → post (c, s, b, a3))
    (hx : x = nI p := by rfl) (hy : y = nI v := by rfl) (hp : p < 24 := by decide) (hv : v < 101 := by decide) : wpX_constantTo post (c, a1, a2, a3) x y := by
  subst hx hy
  unfold wpX_constantTo
  refine qf_clear p (fun s hs hf => ?_) rfl hp
  have key : ∀ d, d = min v 1 → ∀ b, b = upd (upd a2 p (qf_dg 0)) p (qf_dg d) → post (c, upd s (p * 40) (nI v), b, a3) := by
    intro d hd b hb
    have e : b = upd a2 p (qf_dg d) := by
      rw [hb]
      funext r
      by_cases er : r = p
      · rw [er, pk_us, pk_us]
      · rw [pk_un er, pk_un er, pk_un er]
    rw [e]
    refine H _ _ (qf_Qset h (qf_Fu hf (by omega) (by omega)) (by omega) ?_) (fun r hr => pk_un hr)
    intro w ew
    obtain rfl := Option.some.inj ew
    exact ⟨hv, pk_us, fun j j0 j1 => by rw [pk_un (by omega)]; exact hs j j1, hd⟩
  refine ⟨pk_in (p * 40) 960 (by omega) (qf_ix0 p), nm_r (by rw [pk_cl (p * 40) (qf_ix0 p)]) (pk_eq v 0 (fun z => ⟨pk_in p 24 hp, nm_r (by rw [nI_clamp (by omega)]) ?_⟩) (fun z => ⟨pk_in p 24 hp, nm_r (by rw [nI_clamp (by omega)]) ?_⟩))⟩
  · exact key 0 (by omega) _ rfl
  · exact key 1 (by omega) _ rfl
/-- copy -/
theorem qf_copy {post : St2 → Prop} {c : Int32} {m : Nat → Option Nat} {a1 a2 a3 : Nat → Int32} {x y : Int32} (f t : Nat) (h : qf_Q m a1 a2)
    (H : ∀ s b, qf_Q (qf_set m t (m f)) s b → post (c, s, b, a3))
    (hx : x = nI f := by rfl) (hy : y = nI t := by rfl) (hf : f < 24 := by decide) (ht : t < 24 := by decide) (hn : f ≠ t := by decide) : wpX_copy post (c, a1, a2, a3) x y := by
  subst hx hy
  have fin : ∀ s, (∀ j, j < 40 → s (t * 40 + j) = a1 (f * 40 + j)) → qf_F s a1 t → post (c, s, upd a2 t (a2 f), a3) := by
    intro s hs hF
    obtain ⟨d, hd, ed⟩ := h.1 f hf
    rw [ed]
    refine H _ _ (qf_Qset h hF hd ?_)
    intro v ev
    obtain ⟨h1, h2, h3, h4⟩ := h.2 f v hf ev
    refine ⟨h1, (hs 0 (by omega)).trans h2, fun j j0 j1 => (hs j j1).trans (h3 j j0 j1), ?_⟩
    rw [ed] at h4
    have t1 := qf_dgT (d := d) (by omega)
    rw [h4, qf_dgT (by omega)] at t1
    omega
  exact pk_loop (fun n i s => wX_copy_2 post (nI f) (nI t) c n (nI i) s a2 a3) (fun i s => (∀ j, j < i → s (t * 40 + j) = a1 (f * 40 + j)) ∧ qf_F s a1 t) 40 0 a1 (by omega) ⟨fun j hj => absurd hj (by omega), qf_Fr a1 t⟩
    (fun n s h => pk_le 40 40 (fun _ => ⟨pk_in f 24 hf, pk_in t 24 ht, nm_r (by rw [nI_clamp (show t < 2 ^ 31 by omega), nI_clamp (show f < 2 ^ 31 by omega)]) (fin s h.1 h.2)⟩) (fun z => absurd z (by omega)))
    (fun n i s hi h hw => pk_le 40 i (fun z => absurd z (by omega)) (fun _ => ⟨pk_in (f * 40 + i) 960 (by omega) (qf_ix f i), pk_in (t * 40 + i) 960 (by omega) (qf_ix t i),
      nm_r (by rw [pk_cl (t * 40 + i) (qf_ix t i), pk_cl (f * 40 + i) (qf_ix f i)]) (nm_r (nI_1 i) (hw _ ⟨qf_next (g := fun j => a1 (f * 40 + j)) h.1 (qf_Fo h.2 hn hi), qf_Fu h.2 (by omega) (by omega)⟩))⟩))
/-- fit: the degree is found -/
theorem qf_fit {post : St2 → Prop} {c : Int32} {a1 a2 a3 : Nat → Int32} {x : Int32} (p : Nat)
    (H : ∀ d, d ≤ 40 → (∀ j, d ≤ j → j < 40 → a1 (p * 40 + j) = 0) → (0 < d → ¬ a1 (p * 40 + (d - 1)) = 0) → post (c, a1, upd a2 p (qf_dg d), a3))
    (hx : x = nI p := by rfl) (hp : p < 24 := by decide) : wpX_fit post (c, a1, a2, a3) x := by
  subst hx
  refine Exists.elim (pk_loop (σ := Unit) (fun n i _ => wX_fit_5 post (nI p) c a1 a2 a3 n (qf_dg (40 - i)) (nI i)) (fun i _ => ∀ j, 40 - i ≤ j → j < 40 → a1 (p * 40 + j) = 0) 40 0 () (by omega) (fun j h1 h2 => absurd h1 (by omega)) ?_ ?_) (fun n hn => ?_)
  rotate_left 2
  · have hn' : wX_fit_5 post (nI p) c a1 a2 a3 n (qf_dg (40 - 0)) (nI 0) := hn
    rw [show qf_dg (40 - 0) = 39 by decide] at hn'
    exact ⟨n, hn'⟩
  · intro n _ h
    exact pk_le 40 40 (fun _ => ⟨pk_in p 24 hp, nm_r (by rw [nI_clamp (by omega)]) (H 0 (by omega) (fun j _ hj => h j (by omega) hj) (fun z => absurd z (by omega)))⟩) (fun z => absurd z (by omega))
  · intro n i _ hi h hw
    have e1 : qf_dg (40 - i) = nI (39 - i) := by
      rw [show 40 - i = (39 - i) + 1 by omega, qf_dgS]
    have e2 : qf_dg (40 - (i + 1)) = nI (39 - i) + (-1) := by
      rw [show 40 - (i + 1) = 39 - i by omega]
      rfl
    show wX_fit_5 post (nI p) c a1 a2 a3 (n + 1) (qf_dg (40 - i)) (nI i)
    refine pk_le 40 i (fun z => absurd z (by omega)) (fun _ => ?_)
    rw [e1]
    refine pk_lt (39 - i) 0 (fun z => absurd z (by omega)) (fun _ => ⟨pk_in (p * 40 + (39 - i)) 960 (by omega) (qf_ix p _), ?_⟩)
    rw [pk_cl (p * 40 + (39 - i)) (qf_ix p _)]
    refine br_c (fun z => nm_r e2.symm (nm_r (nI_1 i) (hw () ?_))) (fun z => ⟨pk_in p 24 hp, nm_r (by rw [nI_clamp (by omega), ← e1]) (H (40 - i) (by omega) h (fun _ => ?_))⟩)
    · intro j h1 h2
      by_cases ej : j = 39 - i
      · rw [ej]
        exact z
      · exact h j (by omega) h2
    · rw [show 40 - i - 1 = 39 - i by omega]
      exact z
theorem qf_fitQ {post : St2 → Prop} {c : Int32} {m : Nat → Option Nat} {a1 a2 a3 : Nat → Int32} {x : Int32} (p : Nat) (o : Option Nat) (h : qf_Q m a1 a2)
    (ho : ∀ v, o = some v → v < 101 ∧ a1 (p * 40) = nI v ∧ (∀ j, 0 < j → j < 40 → a1 (p * 40 + j) = 0))
    (H : ∀ b, qf_Q (qf_set m p o) a1 b → post (c, a1, b, a3))
    (hx : x = nI p := by rfl) (hp : p < 24 := by decide) : wpX_fit post (c, a1, a2, a3) x := by
  refine qf_fit p (fun d hd h1 h2 => H _ (qf_Qset h (qf_Fr a1 p) hd (fun v ev => ?_))) hx hp
  obtain ⟨g1, g2, g3⟩ := ho v ev
  refine ⟨g1, g2, g3, ?_⟩
  have l1 : d ≤ 1 := by
    rcases Nat.lt_or_ge 1 d with z | z
    · exact absurd (g3 (d - 1) (by omega) (by omega)) (h2 (by omega))
    · exact z
  by_cases v0 : v = 0
  · subst v0
    by_cases d0 : d = 0
    · omega
    · have d1 : d = 1 := by omega
      subst d1
      exact absurd (g2.trans nI_0) (h2 (by omega))
  · by_cases d0 : d = 0
    · have z := h1 0 (by omega) (by omega)
      exact absurd (g2.symm.trans z) (nI_ne0 (by omega) (by omega))
    · omega
/-- inverse: it ends, and 1 / 1 = 1 -/
theorem qf_inv {post : Int32 → Prop} {u : St2} {x : Int32} (H : ∀ r, (x = 1 → r = 1) → post r) : wpX_inverse post u x := by
  obtain ⟨c, a1, a2, a3⟩ := u
  have one : ∀ y z : Int32, y = 1 → z = 1 → y * z - y * z / 101 * 101 = 1 := by
    intro y z hy hz
    subst hy hz
    decide
  exact pk_loop (σ := Int32 × Int32) (fun n i s => wX_inverse_7 post c a1 a2 a3 n s.1 s.2 (nI i)) (fun _ s => x = 1 → s.1 = 1 ∧ s.2 = 1) 7 0 (1, x) (by omega) (fun e => ⟨rfl, e⟩)
    (fun n s h => pk_le 7 7 (fun _ => H _ (fun e => (h e).1)) (fun z => absurd z (by omega)))
    (fun n i s hi h hw => pk_le 7 i (fun z => absurd z (by omega)) (fun _ => br_c
      (fun _ => ⟨qf_101, nm_e ⟨qf_101, nm_e (nm_r (nI_1 i) (hw (s.1 * s.2 - s.1 * s.2 / 101 * 101, s.2 * s.2 - s.2 * s.2 / 101 * 101) (fun e => ⟨one _ _ (h e).1 (h e).2, one _ _ (h e).2 (h e).2⟩)))⟩⟩)
      (fun _ => ⟨qf_101, nm_e (nm_r (nI_1 i) (hw (s.1, s.2 * s.2 - s.2 * s.2 / 101 * 101) (fun e => ⟨(h e).1, one _ _ (h e).2 (h e).2⟩)))⟩)))
/-- reduce: it ends, and 0 stays 0 -/
theorem qf_red {post : Int32 → Prop} {u : St2} {x : Int32} (H : ∀ r, (x = 0 → r = 0) → post r) : wpX_reduce post u x := by
  obtain ⟨c, a1, a2, a3⟩ := u
  refine ⟨qf_101, nm_e (br_c (fun _ => H _ (fun e => by rw [e]; exact qf_rem0)) (fun z => H _ (fun e => ?_)))⟩
  rw [e, qf_rem0] at z
  exact absurd (by decide) z
end
section
/-- scale: with 1 the constant stays -/
theorem qf_scale {post : St2 → Prop} {c : Int32} {m : Nat → Option Nat} {a1 a2 a3 : Nat → Int32} {x y : Int32} (p : Nat) (o : Option Nat) (h : qf_Q m a1 a2)
    (ho : ∀ v, o = some v → y = 1 ∧ m p = some v) (H : ∀ s b, qf_Q (qf_set m p o) s b → post (c, s, b, a3))
    (hx : x = nI p := by rfl) (hp : p < 24 := by decide) : wpX_scale post (c, a1, a2, a3) x y := by
  subst hx
  refine pk_loop (fun n i s => wX_scale_2 post (nI p) y c n (nI i) s a2 a3) (fun i s => qf_F s a1 p ∧ ∀ v, o = some v → s (p * 40) = nI v ∧ ∀ j, 0 < j → j < 40 → s (p * 40 + j) = 0) 40 0 a1 (by omega) ⟨qf_Fr a1 p, ?_⟩ ?_ ?_
  · intro v ev
    obtain ⟨h1, h2, h3, h4⟩ := h.2 p v hp (ho v ev).2
    exact ⟨h2, h3⟩
  · intro n s hI
    refine pk_le 40 40 (fun _ => ?_) (fun z => absurd z (by omega))
    refine qf_fitQ p o (qf_Qw h hI.1) (fun v ev => ⟨(h.2 p v hp (ho v ev).2).1, hI.2 v ev⟩) (fun b hb => ?_) rfl hp
    rw [qf_ss] at hb
    exact H s b hb
  · intro n i s hi hI hw
    refine pk_le 40 i (fun z => absurd z (by omega)) (fun _ => ⟨pk_in (p * 40 + i) 960 (by omega) (qf_ix p i), qf_101, pk_in (p * 40 + i) 960 (by omega) (qf_ix p i), nm_r (by rw [pk_cl (p * 40 + i) (qf_ix p i)]) (nm_r (nI_1 i) (hw _ ⟨qf_Fu hI.1 (by omega) (by omega), fun v ev => ?_⟩))⟩)
    obtain ⟨g1, g2⟩ := hI.2 v ev
    have y1 := (ho v ev).1
    have v1 := (h.2 p v hp (ho v ev).2).1
    subst y1
    by_cases e : i = 0
    · subst e
      refine ⟨?_, fun j j0 j1 => ?_⟩
      · rw [Nat.add_zero, pk_us, g1, Int32.mul_one, qf_rem (by omega), Nat.mod_eq_of_lt v1]
      · rw [pk_un (by omega)]
        exact g2 j j0 j1
    · refine ⟨?_, fun j j0 j1 => ?_⟩
      · rw [pk_un (by omega)]
        exact g1
      · by_cases ej : j = i
        · rw [ej, pk_us, g2 i (by omega) hi, Int32.mul_one]
          exact qf_rem0
        · rw [pk_un (by omega)]
          exact g2 j j0 j1
/-- the inner loop of multiply, by any invariant K of what is stored -/
theorem qf_mul22 {post : St2 → Prop} {J : Int32 → (Nat → Int32) → (Nat → Int32) → (Nat → Int32) → Prop} {c : Int32} {a2 a3 s0 : Nat → Int32} {p q t i dq : Nat} (K : Nat → (Nat → Int32) → Prop)
    (hp : p < 24) (hq : q < 24) (ht : t < 24) (hi : i < 40) (hd : dq ≤ 40) (ed : a2 q = qf_dg dq) (h0 : K 0 s0)
    (hs : ∀ j s, j < dq → i + j < 40 → K j s → K (j + 1) (upd s (t * 40 + i + j) (s (t * 40 + i + j) + s (p * 40 + i) * s (q * 40 + j) - (s (t * 40 + i + j) + s (p * 40 + i) * s (q * 40 + j)) / 101 * 101)))
    (H : ∀ j s, K j s → (j = dq ∨ j < dq ∧ 40 ≤ i + j) → J (nI (i + 1)) s a2 a3) :
    ∃ n, wX_multiply_22 post J (nI p) (nI q) (nI t) (nI i) c n 0 s0 a2 a3 := by
  have eq : ∀ j, nI t * 40 + nI i + nI j = nI (t * 40 + i + j) := by
    intro j
    rw [qf_ix, nI_add]
  refine pk_loop (fun n j s => wX_multiply_22 post J (nI p) (nI q) (nI t) (nI i) c n (nI j) s a2 a3) K dq 0 s0 (by omega) h0 ?_ ?_
  · intro n s hK
    refine ⟨pk_in q 24 hq, ?_⟩
    rw [nI_clamp (show q < 2 ^ 31 by omega), ed]
    exact qf_lt _ _ (qf_dgT (by omega)) (nI_toInt (by omega)) (fun _ => nm_r (nI_1 i) (H dq s hK (Or.inl rfl))) (fun z => absurd z (by omega))
  · intro n j s hj hK hw
    refine ⟨pk_in q 24 hq, ?_⟩
    rw [nI_clamp (show q < 2 ^ 31 by omega), ed]
    refine qf_lt _ _ (qf_dgT (by omega)) (nI_toInt (by omega)) (fun z => absurd z (by omega)) (fun _ => ?_)
    refine pk_le 40 (i + j) (fun z => nm_r (nI_1 i) (H j s hK (Or.inr ⟨hj, z⟩))) (fun z => ?_) rfl (nI_add i j)
    refine nm_r (eq j) ⟨pk_in (p * 40 + i) 960 (by omega) (qf_ix p i), pk_in (q * 40 + j) 960 (by omega) (qf_ix q j), ?_⟩
    rw [pk_cl (p * 40 + i) (qf_ix p i), pk_cl (q * 40 + j) (qf_ix q j), nI_clamp (show t * 40 + i + j < 2 ^ 31 by omega)]
    exact nm_e ⟨pk_in (t * 40 + i + j) 960 (by omega), qf_101, pk_in (t * 40 + i + j) 960 (by omega), nm_e (nm_r (nI_1 j) (hw _ (hs j s hj z hK)))⟩
/-- multiply: two constants give their product -/
theorem qf_mul {post : St2 → Prop} {c : Int32} {m : Nat → Option Nat} {a1 a2 a3 : Nat → Int32} {x y z : Int32} (p q t : Nat) (o : Option Nat) (h : qf_Q m a1 a2)
    (ho : ∀ w, o = some w → ∃ u v, m p = some u ∧ m q = some v ∧ w = u * v % 101) (H : ∀ s b, qf_Q (qf_set m t o) s b → post (c, s, b, a3))
    (hx : x = nI p := by rfl) (hy : y = nI q := by rfl) (hz : z = nI t := by rfl) (hp : p < 24 := by decide) (hq : q < 24 := by decide) (ht : t < 24 := by decide) (hpt : p ≠ t := by decide) (hqt : q ≠ t := by decide) :
    wpX_multiply post (c, a1, a2, a3) x y z := by
  subst hx hy hz
  unfold wpX_multiply
  refine qf_clearQ t h (fun a b hb ha haf hbr => ?_) rfl ht
  obtain ⟨dp, hdp, edp⟩ := hb.1 p hp
  obtain ⟨dq, hdq, edq⟩ := hb.1 q hq
  have deg : ∀ (r d v : Nat), r < 24 → r ≠ t → d ≤ 40 → b r = qf_dg d → m r = some v → v < 101 ∧ a (r * 40) = nI v ∧ d = min v 1 := by
    intro r d v hr hrt hd ed ev
    obtain ⟨h1, h2, h3, h4⟩ := h.2 r v hr ev
    refine ⟨h1, (qf_Fo (j := 0) haf hrt (by omega)).trans h2, ?_⟩
    rw [hbr r hrt, h4] at ed
    have t1 := qf_dgT (d := d) (by omega)
    rw [← ed, qf_dgT (by omega)] at t1
    omega
  refine pk_loop (fun n i s => wX_multiply_8 post (nI p) (nI q) (nI t) c n (nI i) s b a3)
    (fun i s => qf_F s a t ∧ ∀ w u v, o = some w → m p = some u → m q = some v → w = u * v % 101 → (∀ j, 0 < j → j < 40 → s (t * 40 + j) = 0) ∧ s (t * 40) = nI (if i = 0 then 0 else w)) dp 0 a (by omega) ?_ ?_ ?_
  · exact ⟨qf_Fr a t, fun w u v _ _ _ _ => ⟨fun j _ hj => ha j hj, ha 0 (by omega)⟩⟩
  · intro n s hI
    refine ⟨pk_in p 24 hp, ?_⟩
    rw [nI_clamp (show p < 2 ^ 31 by omega), edp]
    refine qf_lt _ _ (qf_dgT (by omega)) (nI_toInt (by omega)) (fun _ => ?_) (fun z => absurd z (by omega))
    refine qf_fitQ t o (qf_Qw hb hI.1) (fun w ew => ?_) (fun b' hb' => ?_) rfl ht
    · obtain ⟨u, v, eu, ev, euv⟩ := ho w ew
      obtain ⟨g1, g2⟩ := hI.2 w u v ew eu ev euv
      refine ⟨by omega, ?_, g1⟩
      rw [g2]
      have hdpu := (deg p dp u hp hpt hdp edp eu).2.2
      by_cases d0 : dp = 0
      · rw [if_pos d0, euv, show u = 0 by omega, Nat.zero_mul]
      · rw [if_neg d0]
    · rw [qf_ss, qf_ss] at hb'
      exact H s b' hb'
  · intro n i s hi hI hw
    refine ⟨pk_in p 24 hp, ?_⟩
    rw [nI_clamp (show p < 2 ^ 31 by omega), edp]
    refine qf_lt _ _ (qf_dgT (by omega)) (nI_toInt (by omega)) (fun z => absurd z (by omega)) (fun _ => ?_)
    refine qf_mul22 (fun j s => qf_F s a t ∧ ∀ w u v, o = some w → m p = some u → m q = some v → w = u * v % 101 → (∀ j, 0 < j → j < 40 → s (t * 40 + j) = 0) ∧ s (t * 40) = nI (if j = 0 then 0 else w)) hp hq ht (by omega) hdq edq ?_ ?_ ?_
    · refine ⟨hI.1, fun w u v ew eu ev euv => ?_⟩
      obtain ⟨g1, g2⟩ := hI.2 w u v ew eu ev euv
      have i0 : i = 0 := by
        have := (deg p dp u hp hpt hdp edp eu).2.2
        omega
      rw [if_pos i0] at g2
      exact ⟨g1, g2⟩
    · intro j s' hj hij hK
      refine ⟨qf_Fu hK.1 (by omega) (by omega), fun w u v ew eu ev euv => ?_⟩
      obtain ⟨g1, g2⟩ := hK.2 w u v ew eu ev euv
      obtain ⟨u1, u2, u3⟩ := deg p dp u hp hpt hdp edp eu
      obtain ⟨v1, v2, v3⟩ := deg q dq v hq hqt hdq edq ev
      have i0 : i = 0 := by omega
      have j0 : j = 0 := by omega
      subst i0 j0
      rw [if_pos rfl] at g2
      refine ⟨fun k k0 k1 => ?_, ?_⟩
      · rw [pk_un (by omega)]
        exact g1 k k0 k1
      · have w1 : u * v < 10201 := by
          have := Nat.mul_lt_mul'' u1 v1
          omega
        have ep : s' (p * 40) = nI u := (qf_Fo (j := 0) hK.1 hpt (by omega)).trans u2
        have eq : s' (q * 40) = nI v := (qf_Fo (j := 0) hK.1 hqt (by omega)).trans v2
        simp only [Nat.add_zero]
        rw [pk_us, g2, ep, eq, pk_mul, nI_add, Nat.zero_add, qf_rem (by omega), ← euv, if_neg (by omega)]
    · intro j s' hK hj
      refine hw s' ⟨hK.1, fun w u v ew eu ev euv => ?_⟩
      obtain ⟨g1, g2⟩ := hK.2 w u v ew eu ev euv
      have u3 := (deg p dp u hp hpt hdp edp eu).2.2
      have v3 := (deg q dq v hq hqt hdq edq ev).2.2
      refine ⟨g1, ?_⟩
      rw [g2, if_neg (show ¬ i + 1 = 0 by omega)]
      by_cases j0 : j = 0
      · rw [if_pos j0, euv, show v = 0 by omega, Nat.mul_zero]
      · rw [if_neg j0]
/-- add: it ends -/
theorem qf_add {post : St2 → Prop} {c : Int32} {m : Nat → Option Nat} {a1 a2 a3 : Nat → Int32} {x y g z : Int32} (p q t : Nat) (h : qf_Q m a1 a2)
    (H : ∀ s b, qf_Q (qf_set m t none) s b → post (c, s, b, a3))
    (hx : x = nI p := by rfl) (hy : y = nI q := by rfl) (hz : z = nI t := by rfl) (hp : p < 24 := by decide) (hq : q < 24 := by decide) (ht : t < 24 := by decide) :
    wpX_add post (c, a1, a2, a3) x y g z := by
  subst hx hy hz
  refine pk_loop (fun n i s => wX_add_3 post (nI p) (nI q) g (nI t) c n (nI i) s a2 a3) (fun i s => qf_F s a1 t) 40 0 a1 (by omega) (qf_Fr a1 t) ?_ ?_
  · intro n s hI
    refine pk_le 40 40 (fun _ => ?_) (fun z => absurd z (by omega))
    refine qf_fitQ t none (qf_Qw h hI) (fun v ev => nomatch ev) (fun b hb => ?_) rfl ht
    rw [qf_ss] at hb
    exact H s b hb
  · intro n i s hi hI hw
    exact pk_le 40 i (fun z => absurd z (by omega)) (fun _ => ⟨pk_in (p * 40 + i) 960 (by omega) (qf_ix p i), pk_in (q * 40 + i) 960 (by omega) (qf_ix q i), nm_e (qf_red (fun r _ => ⟨pk_in (t * 40 + i) 960 (by omega) (qf_ix t i), nm_r (by rw [pk_cl (t * 40 + i) (qf_ix t i)]) (nm_r (nI_1 i) (hw _ (qf_Fu hI (by omega) (by omega))))⟩))⟩)
end
section
theorem qf_dgsub {a b : Nat} (h : b ≤ a) : qf_dg a - qf_dg b = nI (a - b) := by
  rw [← pk_sub h]
  unfold qf_dg
  grind
theorem qf_dginj {a b : Nat} (ha : a < 2 ^ 31) (hb : b < 2 ^ 31) (h : qf_dg a = qf_dg b) : a = b := by
  have t1 := qf_dgT ha
  rw [h, qf_dgT hb] at t1
  omega
/-- the place of the quotient: none, or a polynomial -/
def qf_K (w : Int32) : Prop := w = -1 ∨ ∃ k, k < 23 ∧ w = nI k
theorem qf_d179 {post : St2 → Prop} {J : Int32 → Int32 → (Nat → Int32) → (Nat → Int32) → (Nat → Int32) → Prop} {c x2 x3 x4 x5 : Int32} {a1 a2 a3 : Nat → Int32} {p : Nat} (hp : p < 24) (h : qf_D a2)
    (H : ∀ b, qf_D b → J (x5 + 1) c a1 b a3) : wX_divide_179 post J (nI p) x2 x3 x4 x5 c a1 a2 a3 := by
  unfold wX_divide_179
  exact qf_fit p (fun d hd _ _ => nm_e (H _ (qf_Dset h hd))) rfl hp
theorem qf_d98 {post : St2 → Prop} {J : Int32 → Int32 → (Nat → Int32) → (Nat → Int32) → (Nat → Int32) → Prop} {c w x4 x5 x7 : Int32} {s0 a2 a3 : Nat → Int32} {p q dp dq : Nat}
    (hp : p < 24) (hq : q < 24) (hw : qf_K w) (hdp : dp ≤ 40) (hle : dq ≤ dp) (ed : a2 q = qf_dg dq) (h : qf_D a2)
    (H : ∀ s b, qf_D b → J (x5 + 1) c s b a3) : ∃ n, wX_divide_98 post J (nI p) (nI q) w x4 x5 (nI (dp - dq)) x7 c n 0 s0 a2 a3 := by
  have ex : ∀ i, nI p * 40 + nI i + nI (dp - dq) = nI (p * 40 + i + (dp - dq)) := by
    intro i
    rw [qf_ix, nI_add]
  refine pk_loop (fun n i s => wX_divide_98 post J (nI p) (nI q) w x4 x5 (nI (dp - dq)) x7 c n (nI i) s a2 a3) (fun _ _ => True) dq 0 s0 (by omega) trivial ?_ ?_
  · intro n s _
    refine ⟨pk_in q 24 hq, ?_⟩
    rw [nI_clamp (show q < 2 ^ 31 by omega), ed]
    refine qf_lt _ _ (qf_dgT (by omega)) (nI_toInt (by omega)) (fun _ => ?_) (fun z => absurd z (by omega))
    rcases hw with e | ⟨k, hk, e⟩
    · subst e
      exact br_t (by decide) (qf_d179 hp h (fun b hb => H s b hb))
    · subst e
      exact br_f (nI_pos (by omega)) ⟨pk_in (k * 40 + (dp - dq)) 960 (by omega) (qf_ix k _), nm_e (qf_d179 hp h (fun b hb => H _ b hb))⟩
  · intro n i s hi _ hn
    refine ⟨pk_in q 24 hq, ?_⟩
    rw [nI_clamp (show q < 2 ^ 31 by omega), ed]
    exact qf_lt _ _ (qf_dgT (by omega)) (nI_toInt (by omega)) (fun z => absurd z (by omega)) (fun _ => nm_r (ex i) ⟨pk_in (p * 40 + i + (dp - dq)) 960 (by omega), pk_in (q * 40 + i) 960 (by omega) (qf_ix q i),
      qf_red (fun r _ => ⟨pk_in (p * 40 + i + (dp - dq)) 960 (by omega), nm_e (nm_r (nI_1 i) (hn _ trivial))⟩)⟩)
theorem qf_d190 {post : St2 → Prop} {c w : Int32} {a1 a2 a3 : Nat → Int32} (hw : qf_K w) (h : qf_D a2) (H : ∀ s b, qf_D b → post (c, s, b, a3)) : wX_divide_190 post w c a1 a2 a3 := by
  rcases hw with e | ⟨k, hk, e⟩
  · subst e
    exact br_t (by decide) (H _ _ h)
  · subst e
    exact br_f (nI_pos (by omega)) (qf_fit k (fun d hd _ _ => H _ _ (qf_Dset h hd)) rfl (by omega))
theorem qf_d34 {post : St2 → Prop} {c w x4 : Int32} {a1 a2 a3 : Nat → Int32} {p q : Nat} (hp : p < 24) (hq : q < 24) (hp1 : 0 < p) (hw : qf_K w) (h : qf_D a2) (H : ∀ s b, qf_D b → post (c, s, b, a3)) :
    ∃ n, wX_divide_34 post (nI p) (nI q) w x4 n 0 c a1 a2 a3 := by
  refine pk_loop (σ := (Nat → Int32) × (Nat → Int32)) (fun n i s => wX_divide_34 post (nI p) (nI q) w x4 n (nI i) c s.1 s.2 a3) (fun _ s => qf_D s.2) 40 0 (a1, a2) (by omega) h ?_ ?_
  · intro n s hs
    exact pk_le 40 40 (fun _ => qf_d190 hw hs H) (fun z => absurd z (by omega))
  · intro n i s hi hs hn
    obtain ⟨s, b⟩ := s
    dsimp only at hs hn ⊢
    obtain ⟨dp, hdp, edp⟩ := hs p hp
    obtain ⟨dq, hdq, edq⟩ := hs q hq
    refine pk_le 40 i (fun z => absurd z (by omega)) (fun _ => ⟨pk_in p 24 hp, pk_in q 24 hq, ?_⟩)
    rw [nI_clamp (show p < 2 ^ 31 by omega), nI_clamp (show q < 2 ^ 31 by omega), edp, edq]
    refine qf_lt _ _ (qf_dgT (by omega)) (qf_dgT (by omega)) (fun _ => qf_d190 hw hs H) (fun z => ⟨pk_in p 24 hp, pk_in q 24 hq, nm_r (qf_dgsub (by omega)) ⟨pk_in p 24 hp, pk_in (p * 40 + dp - 1) 960 (by omega) (qf_ixd (by omega)), qf_101, nm_e ?_⟩⟩)
    refine qf_d98 hp hq hw hdp (by omega) edq hs (fun s' b' hb' => ?_)
    rw [nI_1]
    exact hn (s', b') hb'
theorem qf_d9 {post : St2 → Prop} {c w : Int32} {a1 a2 a3 : Nat → Int32} {p q : Nat} (hp : p < 24) (hq : q < 24) (hp1 : 0 < p) (hq1 : 0 < q) (hw : qf_K w) (h : qf_D a2) (H : ∀ s b, qf_D b → post (c, s, b, a3)) :
    wX_divide_9 post (nI p) (nI q) w c a1 a2 a3 := by
  obtain ⟨dq, hdq, edq⟩ := h q hq
  refine ⟨pk_in q 24 hq, ?_⟩
  rw [nI_clamp (show q < 2 ^ 31 by omega), edq]
  exact ⟨pk_in (q * 40 + dq - 1) 960 (by omega) (qf_ixd (by omega)), qf_inv (fun r _ => qf_d34 hp hq hp1 hw h H)⟩
/-- divide: it ends -/
theorem qf_div {post : St2 → Prop} {c : Int32} {a1 a2 a3 : Nat → Int32} {x y w : Int32} (p q : Nat) (h : qf_D a2) (hw : qf_K w) (H : ∀ s b, qf_D b → post (c, s, b, a3))
    (hx : x = nI p := by rfl) (hy : y = nI q := by rfl) (hp : p < 24 := by decide) (hq : q < 24 := by decide) (hp1 : 0 < p := by decide) (hq1 : 0 < q := by decide) : wpX_divide post (c, a1, a2, a3) x y w := by
  subst hx hy
  unfold wpX_divide
  rcases hw with e | ⟨k, hk, e⟩
  · exact br_t (by rw [e]; decide) (qf_d9 hp hq hp1 hq1 (Or.inl e) h H)
  · subst e
    exact br_f (nI_pos (by omega)) (qf_clear k (fun s _ _ => qf_d9 hp hq hp1 hq1 (Or.inr ⟨k, hk, rfl⟩) (qf_Dset h (by omega)) H) rfl (by omega))
end
section
/-- divide, a constant by 1: behind the first round -/
theorem qf_v179 {post : St2 → Prop} {c w x4 : Int32} {m : Nat → Option Nat} {a1 a2 a3 : Nat → Int32} {p q n : Nat} (hp : p < 24) (hq : q < 24) (hpq : q ≠ p) (h : qf_Q m a1 a2) (hz : ∀ j, j < 40 → a1 (p * 40 + j) = 0) (ev : m q = some 1)
    (H : ∀ b, qf_Q (qf_set m p (some 0)) a1 b → wX_divide_190 post w c a1 b a3) :
    wX_divide_179 post (wX_divide_34 post (nI p) (nI q) w x4 (n + 1)) (nI p) (nI q) w x4 (nI 0) c a1 a2 a3 := by
  unfold wX_divide_179
  refine qf_fitQ p (some 0) h ?_ (fun b hb => nm_r (nI_1 0) ?_) rfl hp
  · intro v e
    obtain rfl := Option.some.inj e
    exact ⟨by omega, (hz 0 (by omega)).trans nI_0.symm, fun j _ hj => hz j hj⟩
  · have ep : b p = qf_dg 0 := (hb.2 p 0 hp (by unfold qf_set; rw [if_pos rfl])).2.2.2
    have eq : b q = qf_dg 1 := (hb.2 q 1 hq (by unfold qf_set; rw [if_neg hpq]; exact ev)).2.2.2
    refine pk_le 40 (0 + 1) (fun z => absurd z (by omega)) (fun _ => ⟨pk_in p 24 hp, pk_in q 24 hq, ?_⟩)
    rw [nI_clamp (show p < 2 ^ 31 by omega), nI_clamp (show q < 2 ^ 31 by omega), ep, eq]
    exact br_t (by decide) (H b hb)
theorem qf_v98 {post : St2 → Prop} {J : Int32 → Int32 → (Nat → Int32) → (Nat → Int32) → (Nat → Int32) → Prop} {c w x4 x5 : Int32} {a1 a2 a3 : Nat → Int32} {p q u n : Nat}
    (hp : p < 24) (hq : q < 24) (e1 : a1 (p * 40) = nI u) (e2 : a1 (q * 40) = nI 1) (ed : a2 q = qf_dg 1)
    (H : (w < 0 → wX_divide_179 post J (nI p) (nI q) w x4 x5 c (upd a1 (p * 40) 0) a2 a3) ∧
      (¬ w < 0 → vp_in (w * 40 + nI 0) 960 ∧ ∀ a, a = upd (upd a1 (p * 40) 0) (w * 40 + nI 0).toNatClampNeg (nI u) → wX_divide_179 post J (nI p) (nI q) w x4 x5 c a a2 a3)) :
    wX_divide_98 post J (nI p) (nI q) w x4 x5 (nI 0) (nI u) c (n + 1 + 1) (nI 0) a1 a2 a3 := by
  refine ⟨pk_in q 24 hq, ?_⟩
  rw [nI_clamp (show q < 2 ^ 31 by omega), ed]
  refine br_f (by decide) (nm_r (show nI p * 40 + nI 0 + nI 0 = nI (p * 40) by rw [qf_ix, nI_add]; rfl) ⟨pk_in (p * 40) 960 (by omega), pk_in (q * 40) 960 (by omega) (qf_ix q 0), qf_red (fun r hr => ⟨pk_in (p * 40) 960 (by omega), ?_⟩)⟩)
  have r0 : r = 0 := by
    apply hr
    rw [nI_clamp (show p * 40 < 2 ^ 31 by omega), pk_cl (q * 40) (qf_ix q 0), e1, e2, pk_mul, Nat.mul_one]
    exact Int32.sub_self _
  subst r0
  refine nm_r (by rw [nI_clamp (show p * 40 < 2 ^ 31 by omega)]) (nm_r (nI_1 0) ⟨pk_in q 24 hq, ?_⟩)
  rw [nI_clamp (show q < 2 ^ 31 by omega), ed]
  exact br_t (by decide) H
theorem qf_v9 {post : St2 → Prop} {c w : Int32} {m : Nat → Option Nat} {a1 a2 a3 : Nat → Int32} {p q u : Nat} (hp : p < 24) (hq : q < 24) (h : qf_Q m a1 a2) (eu : m p = some u) (hu : u ≠ 0) (ev : m q = some 1)
    (H : (w < 0 → wX_divide_179 post (wX_divide_34 post (nI p) (nI q) w 1 (0 + 1)) (nI p) (nI q) w 1 (nI 0) c (upd a1 (p * 40) 0) a2 a3) ∧
      (¬ w < 0 → vp_in (w * 40 + nI 0) 960 ∧ ∀ a, a = upd (upd a1 (p * 40) 0) (w * 40 + nI 0).toNatClampNeg (nI u) → wX_divide_179 post (wX_divide_34 post (nI p) (nI q) w 1 (0 + 1)) (nI p) (nI q) w 1 (nI 0) c a a2 a3)) :
    wX_divide_9 post (nI p) (nI q) w c a1 a2 a3 := by
  obtain ⟨u1, u2, u3, u4⟩ := h.2 p u hp eu
  obtain ⟨v1, v2, v3, v4⟩ := h.2 q 1 hq ev
  have u4' : a2 p = nI 0 := by
    rw [u4, show min u 1 = 0 + 1 by omega, qf_dgS]
  have v4' : a2 q = nI 0 := v4
  have key : ∀ n, wX_divide_34 post (nI p) (nI q) w 1 (n + 1) (nI 0) c a1 a2 a3 ↔ wX_divide_34 post (nI p) (nI q) w 1 (n + 1) 0 c a1 a2 a3 := fun n => Iff.rfl
  refine ⟨pk_in q 24 hq, ?_⟩
  rw [nI_clamp (show q < 2 ^ 31 by omega), v4']
  refine ⟨pk_in (q * 40) 960 (by omega) (qf_ix q 0), qf_inv (fun r hr => ?_)⟩
  have r1 : r = 1 := by
    apply hr
    rw [pk_cl (q * 40) (qf_ix q 0), v2]
    rfl
  subst r1
  refine ⟨0 + 1 + 1, ?_⟩
  refine pk_le 40 0 (fun z => absurd z (by omega)) (fun _ => ⟨pk_in p 24 hp, pk_in q 24 hq, ?_⟩)
  rw [nI_clamp (show p < 2 ^ 31 by omega), nI_clamp (show q < 2 ^ 31 by omega), u4', v4']
  refine br_f (by decide) ⟨pk_in p 24 hp, pk_in q 24 hq, nm_r (show nI 0 - nI 0 = nI 0 by decide) ⟨pk_in p 24 hp, pk_in (p * 40) 960 (by omega) (qf_ix p 0), qf_101, nm_r (e' := nI u) ?_ ⟨0 + 1 + 1, ?_⟩⟩⟩
  · rw [pk_cl (p * 40) (qf_ix p 0), u2, Int32.mul_one, qf_rem (by omega), Nat.mod_eq_of_lt u1]
  · exact qf_v98 hp hq u2 v2 v4 H
/-- divide a constant by 1, the quotient isn't kept -/
theorem qf_div1 {post : St2 → Prop} {c : Int32} {m : Nat → Option Nat} {a1 a2 a3 : Nat → Int32} {x y w : Int32} (p q u : Nat) (h : qf_Q m a1 a2) (eu : m p = some u) (hu : u ≠ 0) (ev : m q = some 1)
    (H : ∀ s b, qf_Q (qf_set m p (some 0)) s b → post (c, s, b, a3))
    (hx : x = nI p := by rfl) (hy : y = nI q := by rfl) (hw : w = -1 := by rfl) (hp : p < 24 := by decide) (hq : q < 24 := by decide) (hpq : q ≠ p := by decide) : wpX_divide post (c, a1, a2, a3) x y w := by
  subst hx hy hw
  unfold wpX_divide
  refine br_t (by decide) (qf_v9 hp hq h eu hu ev (br_t (by decide) ?_))
  refine qf_v179 hp hq hpq (qf_Qw h (qf_Fu (qf_Fr a1 p) (by omega) (by omega))) ?_ (by unfold qf_set; rw [if_neg hpq]; exact ev) (fun b hb => br_t (by decide) ?_)
  · intro j hj
    by_cases j0 : j = 0
    · rw [j0, Nat.add_zero, pk_us]
    · rw [pk_un (by omega)]
      exact (h.2 p u hp eu).2.2.1 j (by omega) hj
  · rw [qf_ss] at hb
    exact H _ b hb
/-- divide a constant by 1, the quotient to k -/
theorem qf_div1k {post : St2 → Prop} {c : Int32} {m : Nat → Option Nat} {a1 a2 a3 : Nat → Int32} {x y w : Int32} (p q k u : Nat) (h : qf_Q m a1 a2) (eu : m p = some u) (hu : u ≠ 0) (ev : m q = some 1)
    (H : ∀ s b, qf_Q (qf_set (qf_set m p (some 0)) k (some u)) s b → post (c, s, b, a3))
    (hx : x = nI p := by rfl) (hy : y = nI q := by rfl) (hw : w = nI k := by rfl) (hp : p < 24 := by decide) (hq : q < 24 := by decide) (hk : k < 24 := by decide) (hpq : q ≠ p := by decide) (hkp : k ≠ p := by decide) (hkq : k ≠ q := by decide) :
    wpX_divide post (c, a1, a2, a3) x y w := by
  subst hx hy hw
  unfold wpX_divide
  refine br_f (nI_pos (by omega)) (qf_clearQ k h (fun s b hb hs _ _ => ?_) rfl hk)
  have eu' : qf_set m k (some 0) p = some u := by
    unfold qf_set
    rw [if_neg (Ne.symm hkp)]
    exact eu
  have ev' : qf_set m k (some 0) q = some 1 := by
    unfold qf_set
    rw [if_neg (Ne.symm hkq)]
    exact ev
  refine qf_v9 hp hq hb eu' hu ev' (br_f (nI_pos (by omega)) ⟨pk_in (k * 40) 960 (by omega) (qf_ix k 0), nm_r (by rw [pk_cl (k * 40) (qf_ix k 0)]) ?_⟩)
  refine qf_v179 hp hq hpq (qf_Qw (qf_Qw hb (qf_Fu (qf_Fr s p) (by omega) (by omega))) (qf_Fu (t := k) (qf_Fr _ k) (by omega) (by omega))) ?_ ?_ (fun b' hb' => br_f (nI_pos (by omega)) ?_)
  · intro j hj
    rw [pk_un (by omega)]
    by_cases j0 : j = 0
    · rw [j0, Nat.add_zero, pk_us]
    · rw [pk_un (by omega)]
      exact (hb.2 p u hp eu').2.2.1 j (by omega) hj
  · unfold qf_set
    rw [if_neg (Ne.symm hkq), if_neg hpq, if_neg (Ne.symm hkq)]
    exact ev
  · refine qf_fitQ k (some u) hb' ?_ (fun b2 hb2 => H _ b2 ?_) rfl hk
    · intro v e
      obtain rfl := Option.some.inj e
      refine ⟨(h.2 p u hp eu).1, pk_us, fun j j0 hj => ?_⟩
      rw [pk_un (by omega), pk_un (by omega)]
      exact hs j hj
    · have e : qf_set (qf_set (qf_set (qf_set (qf_set m k (some 0)) p none) k none) p (some 0)) k (some u) = qf_set (qf_set m p (some 0)) k (some u) := by
        funext r
        unfold qf_set
        by_cases r1 : r = k
        · rw [if_pos r1, if_pos r1]
        · by_cases r2 : r = p
          · simp only [if_neg r1, if_pos r2]
          · simp only [if_neg r1, if_neg r2]
      rw [e] at hb2
      exact hb2
end
section
theorem qf_copyD {post : St2 → Prop} {c : Int32} {a1 a2 a3 : Nat → Int32} {x y : Int32} (f t : Nat) (h : qf_D a2) (H : ∀ s b, qf_D b → post (c, s, b, a3))
    (hx : x = nI f := by rfl) (hy : y = nI t := by rfl) (hf : f < 24 := by decide) (ht : t < 24 := by decide) (hn : f ≠ t := by decide) : wpX_copy post (c, a1, a2, a3) x y :=
  qf_copy f t (qf_QN h) (fun s b hb => H s b hb.1) hx hy hf ht hn
theorem qf_mulD {post : St2 → Prop} {c : Int32} {a1 a2 a3 : Nat → Int32} {x y z : Int32} (p q t : Nat) (h : qf_D a2) (H : ∀ s b, qf_D b → post (c, s, b, a3))
    (hx : x = nI p := by rfl) (hy : y = nI q := by rfl) (hz : z = nI t := by rfl) (hp : p < 24 := by decide) (hq : q < 24 := by decide) (ht : t < 24 := by decide) (hpt : p ≠ t := by decide) (hqt : q ≠ t := by decide) :
    wpX_multiply post (c, a1, a2, a3) x y z :=
  qf_mul p q t none (qf_QN h) (fun w e => nomatch e) (fun s b hb => H s b hb.1) hx hy hz hp hq ht hpt hqt
/-- lower, the end: any state -/
theorem qf_l87 {post : St2 → Prop} {c : Int32} {a1 a2 a3 : Nat → Int32} (h : qf_D a2) (H : ∀ s b, qf_D b → post (c, s, b, a3)) : wX_lower_87 post (nI 0) (nI 1) c a1 a2 a3 := by
  unfold wX_lower_87
  refine qf_copyD 0 14 h (fun s b h => ?_)
  refine qf_div 14 12 h (Or.inr ⟨15, by omega, rfl⟩) (fun s b h => ?_)
  refine qf_copyD 15 0 h (fun s b h => ?_)
  refine qf_copyD 1 14 h (fun s b h => ?_)
  refine qf_div 14 12 h (Or.inr ⟨15, by omega, rfl⟩) (fun s b h => ?_)
  refine qf_copyD 15 1 h (fun s b h => ?_)
  obtain ⟨d, hd, ed⟩ := h 1 (by omega)
  refine ⟨pk_in 1 24 (by omega), ?_⟩
  rw [nI_clamp (show 1 < 2 ^ 31 by omega), ed]
  refine ⟨pk_in (1 * 40 + d - 1) 960 (by omega) (qf_ixd (by omega)), qf_inv (fun r _ => ?_)⟩
  refine qf_scale 0 none (qf_QN h) (fun v e => nomatch e) (fun s b h => ?_)
  exact qf_scale 1 none h (fun v e => nomatch e) (fun s b h => H s b h.1)
theorem qf_l32 {post : St2 → Prop} {c : Int32} {a1 a2 a3 : Nat → Int32} (h : qf_D a2) (H : ∀ s b, qf_D b → post (c, s, b, a3)) : ∃ n, wX_lower_32 post (nI 0) (nI 1) n 0 c a1 a2 a3 := by
  refine pk_loop (σ := (Nat → Int32) × (Nat → Int32)) (fun n i s => wX_lower_32 post (nI 0) (nI 1) n (nI i) c s.1 s.2 a3) (fun _ s => qf_D s.2) 80 0 (a1, a2) (by omega) h ?_ ?_
  · intro n s hs
    exact pk_le 80 80 (fun _ => qf_l87 hs H) (fun z => absurd z (by omega))
  · intro n i s hi hs hn
    refine pk_le 80 i (fun z => absurd z (by omega)) (fun _ => br_c (fun _ => qf_l87 hs H) (fun _ => ?_))
    refine qf_div 12 13 hs (Or.inl rfl) (fun s b h => ?_)
    refine qf_copyD 12 14 h (fun s b h => ?_)
    refine qf_copyD 13 12 h (fun s b h => ?_)
    exact qf_copyD 14 13 h (fun s b h => nm_r (nI_1 i) (hn (s, b) h))
/-- lower ends -/
theorem qf_low {post : St2 → Prop} {c : Int32} {a1 a2 a3 : Nat → Int32} {x y : Int32} (h : qf_D a2) (H : ∀ s b, qf_D b → post (c, s, b, a3)) (hx : x = nI 0 := by rfl) (hy : y = nI 1 := by rfl) : wpX_lower post (c, a1, a2, a3) x y := by
  subst hx hy
  unfold wpX_lower
  refine ⟨pk_in 0 24 (by omega), br_c (fun _ => ?_) (fun _ => ?_)⟩
  · refine qf_copyD 0 12 h (fun s b h => ?_)
    exact qf_copyD 1 13 h (fun s b h => qf_l32 h H)
  · exact qf_const 1 1 (qf_QN h) (fun s b h _ => H s b h.1)
/-- lower, the end: u over 1, the common divisor 1 -/
theorem qf_l87v {post : St2 → Prop} {c : Int32} {m : Nat → Option Nat} {a1 a2 a3 : Nat → Int32} {u : Nat} (h : qf_Q m a1 a2) (e0 : m 0 = some u) (hu : u ≠ 0) (e1 : m 1 = some 1) (e12 : m 12 = some 1)
    (H : ∀ m' s b, qf_Q m' s b → m' 0 = some u → m' 1 = some 1 → post (c, s, b, a3)) : wX_lower_87 post (nI 0) (nI 1) c a1 a2 a3 := by
  unfold wX_lower_87
  refine qf_copy 0 14 h (fun s b h => ?_)
  refine qf_div1k 14 12 15 u h (by simp [qf_set, e0]) hu (by simp [qf_set, e12]) (fun s b h => ?_)
  refine qf_copy 15 0 h (fun s b h => ?_)
  refine qf_copy 1 14 h (fun s b h => ?_)
  refine qf_div1k 14 12 15 1 h (by simp [qf_set, e1]) (by decide) (by simp [qf_set, e12]) (fun s b h => ?_)
  refine qf_copy 15 1 h (fun s b h => ?_)
  obtain ⟨v1, v2, v3, v4⟩ := h.2 1 1 (by decide) (by simp [qf_set])
  have v4' : b 1 = nI 0 := v4
  refine ⟨pk_in 1 24 (by omega), ?_⟩
  rw [nI_clamp (show 1 < 2 ^ 31 by omega), v4']
  refine ⟨pk_in (1 * 40) 960 (by omega) (qf_ix 1 0), qf_inv (fun r hr => ?_)⟩
  have r1 : r = 1 := by
    apply hr
    rw [pk_cl (1 * 40) (qf_ix 1 0), v2]
    rfl
  subst r1
  refine qf_scale 0 (some u) h (fun v e => ⟨rfl, by rw [← e]; simp [qf_set]⟩) (fun s b h => ?_)
  refine qf_scale 1 (some 1) h (fun v e => ⟨rfl, by rw [← e]; simp [qf_set]⟩) (fun s b h => ?_)
  exact H _ s b h (by simp [qf_set]) (by simp [qf_set])
/-- lower over u / 1 -/
theorem qf_low1 {post : St2 → Prop} {c : Int32} {m : Nat → Option Nat} {a1 a2 a3 : Nat → Int32} {x y : Int32} (u : Nat) (h : qf_Q m a1 a2) (e0 : m 0 = some u) (e1 : m 1 = some 1)
    (H : ∀ m' s b, qf_Q m' s b → m' 0 = some u → m' 1 = some 1 → post (c, s, b, a3)) (hx : x = nI 0 := by rfl) (hy : y = nI 1 := by rfl) : wpX_lower post (c, a1, a2, a3) x y := by
  subst hx hy
  unfold wpX_lower
  have d0 := (h.2 0 u (by decide) e0).2.2.2
  refine ⟨pk_in 0 24 (by omega), ?_⟩
  rw [nI_clamp (show 0 < 2 ^ 31 by omega), d0]
  by_cases hu : u = 0
  · subst hu
    refine br_f (by decide) ?_
    exact qf_const 1 1 h (fun s b h _ => H _ s b h (by simp [qf_set, e0]) (by simp [qf_set]))
  · rw [show min u 1 = 0 + 1 by omega, qf_dgS]
    refine br_t (by decide) ?_
    refine qf_copy 0 12 h (fun s b h => ?_)
    refine qf_copy 1 13 h (fun s b h => ⟨0 + 1 + 1, ?_⟩)
    have d13 := (h.2 13 1 (by decide) (by simp [qf_set, e1])).2.2.2
    refine pk_le 80 0 (fun z => absurd z (by omega)) (fun _ => br_f (by rw [d13]; decide) ?_)
    refine qf_div1 12 13 u h (by simp [qf_set, e0]) hu (by simp [qf_set, e1]) (fun s b h => ?_)
    refine qf_copy 12 14 h (fun s b h => ?_)
    refine qf_copy 13 12 h (fun s b h => ?_)
    refine qf_copy 14 13 h (fun s b h => nm_r (nI_1 0) ?_)
    have d13' := (h.2 13 0 (by decide) (by simp [qf_set])).2.2.2
    refine pk_le 80 (0 + 1) (fun z => absurd z (by omega)) (fun _ => br_t (by rw [d13']; decide) ?_)
    exact qf_l87v h (by simp [qf_set, e0]) hu (by simp [qf_set, e1]) (by simp [qf_set, e1]) H
end
section
/-- v to the power i, modulo 101 -/
def qf_pw (v : Nat) : Nat → Nat
  | 0 => 1
  | i + 1 => qf_pw v i * v % 101
/-- one more factor: u / 1 times v / 1 -/
theorem qf_mf {post : St2 → Prop} {c : Int32} {m : Nat → Option Nat} {a1 a2 a3 : Nat → Int32} {x y z : Int32} (u v : Nat) (h : qf_Q m a1 a2) (e0 : m 0 = some u) (e1 : m 1 = some 1) (e2 : m 20 = some v) (e3 : m 21 = some 1)
    (H : ∀ m' s b, qf_Q m' s b → m' 0 = some (u * v % 101) → m' 1 = some 1 → m' 20 = some v → m' 21 = some 1 → post (c, s, b, a3))
    (hx : x = nI 0 := by rfl) (hy : y = nI 20 := by rfl) (hz : z = nI 21 := by rfl) : wpX_multiplyFractions post (c, a1, a2, a3) x y z := by
  subst hx hy hz
  unfold wpX_multiplyFractions
  refine qf_mul 0 20 16 (some (u * v % 101)) h (fun w e => ⟨u, v, e0, e2, (Option.some.inj e).symm⟩) (fun s b h => ?_)
  refine qf_mul 1 21 17 (some 1) h (fun w e => ⟨1, 1, by simp [qf_set, e1], by simp [qf_set, e3], (Option.some.inj e).symm⟩) (fun s b h => ?_)
  refine qf_copy 16 0 h (fun s b h => ?_)
  refine qf_copy 17 1 h (fun s b h => ?_)
  exact H _ s b h (by simp [qf_set]) (by simp [qf_set]) (by simp [qf_set, e2]) (by simp [qf_set, e3])
theorem qf_mfD {post : St2 → Prop} {c : Int32} {a1 a2 a3 : Nat → Int32} {x y z : Int32} (q r : Nat) (h : qf_D a2) (H : ∀ s b, qf_D b → post (c, s, b, a3))
    (hx : x = nI 0 := by rfl) (hy : y = nI q := by rfl) (hz : z = nI r := by rfl) (hq : q < 16 := by decide) (hr : r < 16 := by decide) : wpX_multiplyFractions post (c, a1, a2, a3) x y z := by
  subst hx
  unfold wpX_multiplyFractions
  refine qf_mulD 0 q 16 h (fun s b h => ?_) rfl hy rfl (by decide) (by omega) (by decide) (by decide) (by omega)
  refine qf_mulD 1 r 17 h (fun s b h => ?_) rfl hz rfl (by decide) (by omega) (by decide) (by decide) (by omega)
  refine qf_copyD 16 0 h (fun s b h => ?_)
  exact qf_copyD 17 1 h (fun s b h => H s b h)
theorem qf_afD {post : St2 → Prop} {c : Int32} {a1 a2 a3 : Nat → Int32} {x y z : Int32} (h : qf_D a2) (H : ∀ s b, qf_D b → post (c, s, b, a3))
    (hx : x = nI 0 := by rfl) (hy : y = nI 1 := by rfl) : wpX_addFractions post (c, a1, a2, a3) x y z := by
  subst hx hy
  unfold wpX_addFractions
  refine qf_mulD 0 3 16 h (fun s b h => ?_)
  refine qf_mulD 2 1 17 h (fun s b h => ?_)
  refine qf_mulD 1 3 18 h (fun s b h => ?_)
  refine qf_add 16 17 0 (qf_QN h) (fun s b h => ?_)
  exact qf_copyD 18 1 h.1 (fun s b h => H s b h)
/-- power over v / 1, one formula on the stack -/
theorem qf_pow {post : Int32 → St2 → Prop} {m : Nat → Option Nat} {a1 a2 a3 : Nat → Int32} {x : Int32} (n v : Nat) (h : qf_Q m a1 a2) (e0 : m 0 = some v) (e1 : m 1 = some 1) (h3 : a3 0 = 0) (hx : x = nI n) (hn : n ≤ 3)
    (H : ∀ m' s b a, qf_Q m' s b → m' 0 = some (qf_pw v n) → m' 1 = some 1 → a 0 = 0 → post (nI 1) (nI 1, s, b, a)) : wpX_power post (nI 1, a1, a2, a3) x := by
  subst hx
  unfold wpX_power
  refine br_f (nI_pos (by omega)) (br_t (nI_le (b := 3) hn (by decide)) (br_f (by decide) (nm_r (show nI 1 - 1 = nI 0 by decide) ⟨pk_in 0 6 (by omega), ?_⟩)))
  rw [nI_clamp (show 0 < 2 ^ 31 by omega), h3, Int32.mul_zero]
  refine br_t (by decide) ?_
  refine qf_copy 0 20 h (fun s b h => ?_)
  refine qf_copy 1 21 h (fun s b h => ?_)
  refine qf_const 0 1 h (fun s b h _ => ?_)
  refine qf_const 1 1 h (fun s b h _ => ?_)
  refine pk_loop (σ := (Nat → Int32) × (Nat → Int32)) (fun k i s => wX_power_84 post (nI n) (nI 0) k (nI i) (nI 1) s.1 s.2 a3)
    (fun i s => ∃ m, qf_Q m s.1 s.2 ∧ m 0 = some (qf_pw v i) ∧ m 1 = some 1 ∧ m 20 = some v ∧ m 21 = some 1) n 0 (s, b) (by omega) ⟨_, h, by simp [qf_set, qf_pw], by simp [qf_set], by simp [qf_set, e0], by simp [qf_set, e1]⟩ ?_ ?_
  · intro k st hI
    obtain ⟨m', hm, g0, g1, g2, g3⟩ := hI
    refine pk_le n n (fun _ => ?_) (fun z => absurd z (by omega))
    refine qf_low1 _ hm g0 g1 (fun m2 s b h2 k0 k1 => ⟨pk_in 0 6 (by omega), pk_in 0 6 (by omega), nm_e (H m2 s b _ h2 k0 k1 ?_)⟩)
    rw [nI_clamp (show 0 < 2 ^ 31 by omega), pk_us, h3, Int32.mul_zero]
  · intro k i st hi hI hw
    obtain ⟨m', hm, g0, g1, g2, g3⟩ := hI
    refine pk_le n i (fun z => absurd z (by omega)) (fun _ => ?_)
    exact qf_mf _ v hm g0 g1 g2 g3 (fun m2 s b h2 k0 k1 k2 k3 => nm_r (nI_1 i) (hw (s, b) ⟨m2, h2, k0, k1, k2, k3⟩))
/-- at: a constant's value -/
theorem qf_at {post : Int32 → Prop} {c : Int32} {m : Nat → Option Nat} {a1 a2 a3 : Nat → Int32} {x y : Int32} (p v : Nat) (h : qf_Q m a1 a2) (e : m p = some v) (H : post (nI v)) (hx : x = nI p := by rfl) (hp : p < 24 := by decide) : wpX_at post (c, a1, a2, a3) x y := by
  subst hx
  unfold wpX_at
  obtain ⟨h1, h2, h3, h4⟩ := h.2 p v hp e
  refine ⟨pk_in p 24 hp, ?_⟩
  rw [nI_clamp (show p < 2 ^ 31 by omega), h4]
  by_cases v0 : v = 0
  · subst v0
    exact nm_e ⟨0 + 1, br_t (by decide) H⟩
  · rw [show min v 1 = 0 + 1 by omega, qf_dgS]
    refine nm_e ⟨0 + 1 + 1, br_f (by decide) ⟨pk_in (p * 40) 960 (by omega) (qf_ix p 0), qf_101, nm_r (e' := nI v) ?_ (nm_r (e' := -1) (by decide) (br_t (by decide) H))⟩⟩
    rw [pk_cl (p * 40) (qf_ix p 0), h2, Int32.zero_mul, Int32.zero_add, qf_rem (by omega), Nat.mod_eq_of_lt h1]
/-- value of u / 1 -/
theorem qf_val {post : Int32 → Prop} {m : Nat → Option Nat} {a1 a2 a3 : Nat → Int32} {x : Int32} (u : Nat) (h : qf_Q m a1 a2) (e0 : m 0 = some u) (e1 : m 1 = some 1) (x0 : ¬ x < 0) (x1 : x < 101) (H : post (nI u)) : wpX_value post (nI 1, a1, a2, a3) x := by
  unfold wpX_value
  refine br_f x0 (br_t x1 (br_f (by decide) ?_))
  unfold wpX_fractionAt
  refine qf_at 1 1 h e1 (br_f (by decide) (qf_at 0 u h e0 (qf_inv (fun r hr => ⟨qf_101, ?_⟩))))
  have u1 := (h.2 0 u (by decide) e0).1
  rw [hr rfl, Int32.mul_one, qf_rem (by omega), Nat.mod_eq_of_lt u1]
  exact H
/-- variable: with k formulas on the stack -/
theorem qf_var {post : Int32 → St2 → Prop} {a1 a2 a3 : Nat → Int32} (k : Nat) (hk : k < 6) (h : qf_D a2) (H : ∀ s b, qf_D b → b (2 * k) = 1 → post (nI (k + 1)) (nI (k + 1), s, b, upd a3 k 1)) : wpX_variable post (nI k, a1, a2, a3) := by
  have e2 : (2 : Int32) * nI k = nI (2 * k) := pk_mul 2 k
  unfold wpX_variable
  refine pk_eq k 6 (fun z => absurd z (by omega)) (fun _ => ?_)
  refine qf_clear (2 * k) (fun s _ _ => ?_) e2 (by omega)
  dsimp only
  rw [e2]
  refine ⟨pk_in (2 * k * 40 + 1) 960 (by omega) (qf_ix (2 * k) 1), nm_e ⟨pk_in (2 * k) 24 (by omega), nm_r (by rw [nI_clamp (by omega)]) ?_⟩⟩
  refine qf_const (2 * k + 1) 1 (qf_QN (qf_Dset (d := 2) (qf_Dset h (by omega)) (by omega))) (fun s' b hb hr => ?_) (nI_1 (2 * k)) rfl (by omega)
  refine ⟨pk_in k 6 hk, nm_r (e' := upd a3 k 1) (by dsimp only; rw [nI_clamp (by omega)]) (nm_r (nI_1 k) (H s' b hb.1 ?_))⟩
  rw [hr (2 * k) (by omega), pk_us]
theorem qf_a133 {post : Int32 → St2 → Prop} {a1 a2 a3 : Nat → Int32} (h : qf_D a2) (h0 : a3 0 = 0) (h1 : a3 1 = 1) (H : ∀ s b a, a 0 = 1 → post (nI 1) (nI 1, s, b, a)) : wX_apply_133 post (nI 0) (nI 1) (nI 2) a1 a2 a3 := by
  unfold wX_apply_133
  refine qf_low h (fun s b _ => ⟨pk_in 0 6 (by omega), pk_in 1 6 (by omega), pk_in 0 6 (by omega), nm_e (nm_r (show nI 2 - 1 = nI 1 by decide) (H _ _ _ ?_))⟩)
  rw [nI_clamp (show 0 < 2 ^ 31 by omega), nI_clamp (show 1 < 2 ^ 31 by omega), pk_us, h0, h1]
  decide
theorem qf_a76 {post : Int32 → St2 → Prop} {a1 a2 a3 : Nat → Int32} {x : Int32} (h : qf_D a2) (h0 : a3 0 = 0) (h1 : a3 1 = 1) (H : ∀ s b a, a 0 = 1 → post (nI 1) (nI 1, s, b, a)) : wX_apply_76 post x (nI 0) (nI 1) (nI 2) a1 a2 a3 := by
  unfold wX_apply_76
  refine br_c (fun _ => br_c (fun _ => ?_) (fun _ => ?_)) (fun _ => br_c (fun _ => ?_) (fun _ => ?_))
  · exact qf_mfD 2 3 h (fun s b h => qf_a133 h h0 h1 H)
  · exact qf_mfD 3 2 h (fun s b h => qf_a133 h h0 h1 H)
  · unfold wX_apply_93
    exact qf_afD h (fun s b h => qf_a133 h h0 h1 H)
  · unfold wX_apply_93
    exact qf_afD h (fun s b h => qf_a133 h h0 h1 H)
/-- apply with two formulas, heights 0 and 1 -/
theorem qf_app {post : Int32 → St2 → Prop} {a1 a2 a3 : Nat → Int32} {x : Int32} (h : qf_D a2) (h2 : a2 2 = 1) (h0 : a3 0 = 0) (h1 : a3 1 = 1) (x0 : ¬ x < 0) (x1 : x ≤ 3) (H : ∀ s b a, a 0 = 1 → post (nI 1) (nI 1, s, b, a)) : wpX_apply post (nI 2, a1, a2, a3) x := by
  unfold wpX_apply
  refine br_f x0 (br_t x1 (br_t (by decide) (nm_r (show nI 2 - 2 = nI 0 by decide) (nm_r (show nI 2 - 1 = nI 1 by decide) ⟨pk_in 0 6 (by omega), pk_in 1 6 (by omega), ?_⟩))))
  rw [nI_clamp (show 0 < 2 ^ 31 by omega), nI_clamp (show 1 < 2 ^ 31 by omega), h0, h1]
  refine br_t (by decide) (br_c (fun _ => ⟨pk_in 2 24 (by omega), ?_⟩) (fun _ => qf_a76 h h0 h1 H))
  rw [show ((2 : Int32) * nI 1).toNatClampNeg = 2 by decide, h2]
  exact br_t (by decide) (qf_a76 h h0 h1 H)
end
section
/-- 1 if x is one of 0 .. hi -/
def qf_io (x hi : Int32) : Int32 := if x < 0 then 0 else if hi < x then 0 else 1
/-- the power that the law expects -/
def qf_pv (x0 x1 x12 : Int32) : Int32 := if x12 = 0 then x0 else if x1 = 1 then x0 else if x1 = 0 then 1 else if x1 = 2 then x0 * x0 - x0 * x0 / 101 * 101 else (x0 * x0 - x0 * x0 / 101 * 101) * x0 - (x0 * x0 - x0 * x0 / 101 * 101) * x0 / 101 * 101
theorem qf_iob {P : Int32 → Prop} {x hi : Int32} (H : P (qf_io x hi)) : (x < 0 → P 0) ∧ (¬ x < 0 → ((hi < x → P 0) ∧ (¬ hi < x → P 1))) := by
  unfold qf_io at H
  refine br_c (fun e => ?_) (fun e => br_c (fun g => ?_) (fun g => ?_))
  · rw [if_pos e] at H
    exact H
  · rw [if_neg e, if_pos g] at H
    exact H
  · rw [if_neg e, if_neg g] at H
    exact H
section
variable {post : Int32 → St0 → Prop} {mc ms kc ks : Nat} {x0 x1 x2 x3 x5 x6 x7 x8 x9 x10 x11 x12 x13 x14 x16 z0 z1 : Int32}
theorem qf_e291 (hp : post 1 ()) (hz : z1 = z0) (h10 : x10 = 1) : wL_lawOf_291 post mc ms x10 z0 z1 kc ks := br_t hz (br_t h10 hp)
theorem qf_e266 (hp : post 1 ()) (hz : z1 = z0) (h10 : x10 = 1) (h9 : x9 = if x14 = 0 then -1 else if x11 = 0 then -3 else 1) : wL_lawOf_266 post mc ms x9 x10 x11 x14 z0 z1 kc ks :=
  br_t hz (br_c (fun e => qf_e291 hp (by rw [h9, if_pos e]) h10) (fun e => br_c (fun g => qf_e291 hp (by rw [h9, if_neg e, if_pos g]) h10) (fun g => qf_e291 hp (by rw [h9, if_neg e, if_neg g]) h10)))
theorem qf_e251 (hp : post 1 ()) (hz : z1 = z0) (h10 : x10 = 1) (h9 : x9 = if x14 = 0 then -1 else if x11 = 0 then -3 else 1) (h8 : x8 = if x11 = 0 then 1 else 2) : wL_lawOf_251 post mc ms x8 x9 x10 x11 x14 z0 z1 kc ks :=
  br_t hz (br_c (fun e => qf_e266 hp (by rw [h8, if_pos e]) h10 h9) (fun e => qf_e266 hp (by rw [h8, if_neg e]) h10 h9))
theorem qf_e225 (hp : post 1 ()) (hz : z1 = z0) (h10 : x10 = 1) (h9 : x9 = if x14 = 0 then -1 else if x11 = 0 then -3 else 1) (h8 : x8 = if x11 = 0 then 1 else 2) (h7 : x7 = if x13 = 0 then -1 else if x11 = 0 then -4 else x16) : wL_lawOf_225 post mc ms x7 x8 x9 x10 x11 x13 x14 x16 z0 z1 kc ks :=
  br_t hz (br_c (fun e => qf_e251 hp (by rw [h7, if_pos e]) h10 h9 h8) (fun e => br_c (fun g => qf_e251 hp (by rw [h7, if_neg e, if_pos g]) h10 h9 h8) (fun g => qf_e251 hp (by rw [h7, if_neg e, if_neg g]) h10 h9 h8)))
theorem qf_e200 (hp : post 1 ()) (hz : z1 = z0) (h10 : x10 = 1) (h9 : x9 = if x14 = 0 then -1 else if x11 = 0 then -3 else 1) (h8 : x8 = if x11 = 0 then 1 else 2) (h7 : x7 = if x13 = 0 then -1 else if x11 = 0 then -4 else x16)
    (h6 : x6 = if x12 = 0 then -1 else if x11 = 0 then -3 else 1) : wL_lawOf_200 post mc ms x6 x7 x8 x9 x10 x11 x12 x13 x14 x16 z0 z1 kc ks :=
  br_t hz (br_c (fun e => qf_e225 hp (by rw [h6, if_pos e]) h10 h9 h8 h7) (fun e => br_c (fun g => qf_e225 hp (by rw [h6, if_neg e, if_pos g]) h10 h9 h8 h7) (fun g => qf_e225 hp (by rw [h6, if_neg e, if_neg g]) h10 h9 h8 h7)))
theorem qf_e186 (hp : post 1 ()) (h10 : x10 = 1) (h9 : x9 = if x14 = 0 then -1 else if x11 = 0 then -3 else 1) (h8 : x8 = if x11 = 0 then 1 else 2) (h7 : x7 = if x13 = 0 then -1 else if x11 = 0 then -4 else z0)
    (h6 : x6 = if x12 = 0 then -1 else if x11 = 0 then -3 else 1) (h5 : x5 = if x11 = 0 then -1 else 1) : wL_lawOf_186 post mc ms x5 x6 x7 x8 x9 x10 x11 x12 x13 x14 z0 kc ks :=
  br_c (fun e => qf_e200 hp (by rw [h5, if_pos e]) h10 h9 h8 h7 h6) (fun e => qf_e200 hp (by rw [h5, if_neg e]) h10 h9 h8 h7 h6)
theorem qf_e136 (hp : post 1 ()) (h10 : x10 = 1) (h9 : x9 = if x14 = 0 then -1 else if x11 = 0 then -3 else 1) (h8 : x8 = if x11 = 0 then 1 else 2) (h7 : x7 = if x13 = 0 then -1 else if x11 = 0 then -4 else qf_pv x0 x1 x12)
    (h6 : x6 = if x12 = 0 then -1 else if x11 = 0 then -3 else 1) (h5 : x5 = if x11 = 0 then -1 else 1) (hz : ¬ x11 = 0 → z0 = x0 * x0 - x0 * x0 / 101 * 101) : wL_lawOf_136 post mc ms x0 x1 x5 x6 x7 x8 x9 x10 x11 x12 x13 x14 z0 kc ks := by
  have key : ∀ Z, qf_pv x0 x1 x12 = Z → wL_lawOf_186 post mc ms x5 x6 x7 x8 x9 x10 x11 x12 x13 x14 Z kc ks := by
    intro Z hZ
    rw [hZ] at h7
    exact qf_e186 hp h10 h9 h8 h7 h6 h5
  unfold qf_pv at key
  refine br_c (fun e => qf_e186 hp h10 h9 h8 (by rw [h7, if_pos e, if_pos e]) h6 h5) (fun e => ?_)
  refine br_c (fun g => key _ (by rw [if_pos g])) (fun g => ?_)
  refine br_c (fun k1 => key _ (by rw [if_neg g, if_pos k1])) (fun k1 => ?_)
  refine br_c (fun k0 => key _ (by rw [if_neg g, if_neg k1, if_pos k0])) (fun k0 => ?_)
  refine br_c (fun k2 => key _ (by rw [if_neg g, if_neg k1, if_neg k0, if_pos k2, hz e])) (fun k2 => ⟨qf_101, key _ (by rw [if_neg g, if_neg k1, if_neg k0, if_neg k2, hz e])⟩)
theorem qf_e119 (hp : post 1 ()) (h10 : x10 = 1) (h9 : x9 = if x14 = 0 then -1 else if x11 = 0 then -3 else 1) (h8 : x8 = if x11 = 0 then 1 else 2) (h7 : x7 = if x13 = 0 then -1 else if x11 = 0 then -4 else qf_pv x0 x1 x12)
    (h6 : x6 = if x12 = 0 then -1 else if x11 = 0 then -3 else 1) (h5 : x5 = if x11 = 0 then -1 else 1) : wL_lawOf_119 post mc ms x0 x1 x5 x6 x7 x8 x9 x10 x11 x12 x13 x14 kc ks :=
  br_c (fun e => qf_e136 hp h10 h9 h8 h7 h6 h5 (fun z => absurd e z)) (fun e => ⟨qf_101, qf_e136 hp h10 h9 h8 h7 h6 h5 (fun _ => rfl)⟩)
/-- the law's tests: where every answer is the expected one, the law says 1 -/
theorem qf_tail (hp : post 1 ()) (h10 : x10 = 1) (h9 : x9 = if qf_io x3 3 = 0 then -1 else if qf_io x0 100 = 0 then -3 else 1) (h8 : x8 = if qf_io x0 100 = 0 then 1 else 2)
    (h7 : x7 = if qf_io x2 100 = 0 then -1 else if qf_io x0 100 = 0 then -4 else qf_pv x0 x1 (qf_io x1 3)) (h6 : x6 = if qf_io x1 3 = 0 then -1 else if qf_io x0 100 = 0 then -3 else 1) (h5 : x5 = if qf_io x0 100 = 0 then -1 else 1) :
    ((x0 < 0 → (wL_lawOf_69 post mc ms x0 x1 x2 x3 x5 x6 x7 x8 x9 x10 kc ks)) ∧ (¬ x0 < 0 → (((100 < x0 → (wL_lawOf_69 post mc ms x0 x1 x2 x3 x5 x6 x7 x8 x9 x10 kc ks)) ∧ (¬ 100 < x0 → (wL_lawOf_70 post mc ms x0 x1 x2 x3 x5 x6 x7 x8 x9 x10 1 kc ks)))))) :=
  qf_iob (P := fun w11 => wL_lawOf_70 post mc ms x0 x1 x2 x3 x5 x6 x7 x8 x9 x10 w11 kc ks) (qf_iob (P := fun w12 => wL_lawOf_86 post mc ms x0 x1 x2 x3 x5 x6 x7 x8 x9 x10 (qf_io x0 100) w12 kc ks)
    (qf_iob (P := fun w13 => wL_lawOf_103 post mc ms x0 x1 x3 x5 x6 x7 x8 x9 x10 (qf_io x0 100) (qf_io x1 3) w13 kc ks) (qf_iob (P := fun w14 => wL_lawOf_119 post mc ms x0 x1 x5 x6 x7 x8 x9 x10 (qf_io x0 100) (qf_io x1 3) (qf_io x2 100) w14 kc ks)
      (qf_e119 hp h10 h9 h8 h7 h6 h5))))
end
end
section
theorem qf_c100 (x : Int32) : (x < 0 ∧ qf_io x 100 = 0) ∨ (¬ x < 0 ∧ ¬ x < 101 ∧ qf_io x 100 = 0) ∨ ∃ j, j < 101 ∧ x = nI j ∧ ¬ x < 0 ∧ x < 101 ∧ qf_io x 100 = 1 := by
  have t0 : (0 : Int32).toInt = 0 := rfl
  have t1 : (100 : Int32).toInt = 100 := rfl
  have t2 : (101 : Int32).toInt = 101 := rfl
  by_cases h : x < 0
  · exact Or.inl ⟨h, by unfold qf_io; rw [if_pos h]⟩
  · by_cases g : 100 < x
    · refine Or.inr (Or.inl ⟨h, fun z => ?_, by unfold qf_io; rw [if_neg h, if_pos g]⟩)
      rw [Int32.lt_iff_toInt_lt, t1] at g
      rw [Int32.lt_iff_toInt_lt, t2] at z
      omega
    · obtain ⟨j, hj, e⟩ := nI_of h
      have ej : x.toInt = j := by rw [e, nI_toInt hj]
      refine Or.inr (Or.inr ⟨j, ?_, e, h, ?_, by unfold qf_io; rw [if_neg h, if_neg g]⟩)
      · rw [Int32.lt_iff_toInt_lt, t1] at g
        omega
      · rw [Int32.lt_iff_toInt_lt, t1] at g
        rw [Int32.lt_iff_toInt_lt, t2]
        omega
theorem qf_c3 (x : Int32) : (x < 0 ∧ qf_io x 3 = 0) ∨ (¬ x < 0 ∧ ¬ x ≤ 3 ∧ qf_io x 3 = 0) ∨ ∃ j, j ≤ 3 ∧ x = nI j ∧ ¬ x < 0 ∧ x ≤ 3 ∧ qf_io x 3 = 1 := by
  have t1 : (3 : Int32).toInt = 3 := rfl
  by_cases h : x < 0
  · exact Or.inl ⟨h, by unfold qf_io; rw [if_pos h]⟩
  · by_cases g : 3 < x
    · refine Or.inr (Or.inl ⟨h, fun z => ?_, by unfold qf_io; rw [if_neg h, if_pos g]⟩)
      rw [Int32.lt_iff_toInt_lt, t1] at g
      rw [Int32.le_iff_toInt_le, t1] at z
      omega
    · obtain ⟨j, hj, e⟩ := nI_of h
      have ej : x.toInt = j := by rw [e, nI_toInt hj]
      refine Or.inr (Or.inr ⟨j, ?_, e, h, ?_, by unfold qf_io; rw [if_neg h, if_neg g]⟩)
      · rw [Int32.lt_iff_toInt_lt, t1] at g
        omega
      · rw [Int32.lt_iff_toInt_lt, t1] at g
        rw [Int32.le_iff_toInt_le, t1]
        omega
theorem qf_10 : ¬ (1 : Int32) = 0 := by decide
/-- the computed power is the expected one -/
theorem qf_pwv {v j : Nat} (hv : v < 101) (hj : j ≤ 3) : nI (qf_pw v j) = qf_pv (nI v) (nI j) 1 := by
  have sq : nI v * nI v - nI v * nI v / 101 * 101 = nI (v * v % 101) := by
    have := Nat.mul_lt_mul'' hv hv
    rw [pk_mul, qf_rem (by omega)]
  have p1 : qf_pw v 1 = v := by
    show 1 * v % 101 = v
    rw [Nat.one_mul, Nat.mod_eq_of_lt hv]
  have p2 : qf_pw v 2 = v * v % 101 := by
    show qf_pw v 1 * v % 101 = v * v % 101
    rw [p1]
  have p3 : qf_pw v 3 = v * v % 101 * v % 101 := by
    show qf_pw v 2 * v % 101 = v * v % 101 * v % 101
    rw [p2]
  unfold qf_pv
  rw [if_neg qf_10, sq]
  match j, hj with
  | 0, _ => rw [if_neg (by decide), if_pos (by decide)]; rfl
  | 1, _ => rw [if_pos (by decide), p1]
  | 2, _ => rw [if_neg (by decide), if_neg (by decide), if_pos (by decide), p2]
  | 3, _ =>
    have h1 : v * v % 101 < 101 := Nat.mod_lt _ (by decide)
    have := Nat.mul_lt_mul'' h1 hv
    rw [if_neg (by decide), if_neg (by decide), if_neg (by decide), p3, pk_mul, qf_rem (by omega)]
/-- the methods where nothing is on the stack -/
theorem qf_cst0 {post : Int32 → St2 → Prop} {a1 a2 a3 : Nat → Int32} {x : Int32} (hx : x < 0 ∨ ¬ x < 0 ∧ ¬ x < 101) (H : post (-1) (nI 0, a1, a2, a3)) : wpX_constant post (nI 0, a1, a2, a3) x := by
  unfold wpX_constant
  rcases hx with h | ⟨h, g⟩
  · exact br_t h H
  · exact br_f h (br_f g H)
theorem qf_pow0 {post : Int32 → St2 → Prop} {a1 a2 a3 : Nat → Int32} {x : Int32} (H : post (if qf_io x 3 = 0 then -1 else -3) (nI 0, a1, a2, a3)) : wpX_power post (nI 0, a1, a2, a3) x := by
  unfold wpX_power
  rcases qf_c3 x with ⟨h, e⟩ | ⟨h, g, e⟩ | ⟨j, hj, ej, h, g, e⟩
  · rw [if_pos e] at H
    exact br_t h H
  · rw [if_pos e] at H
    exact br_f h (br_f g H)
  · rw [e, if_neg qf_10] at H
    exact br_f h (br_t g (br_t (by decide) H))
theorem qf_val0 {post : Int32 → Prop} {a1 a2 a3 : Nat → Int32} {x : Int32} (H : post (if qf_io x 100 = 0 then -1 else -4)) : wpX_value post (nI 0, a1, a2, a3) x := by
  unfold wpX_value
  rcases qf_c100 x with ⟨h, e⟩ | ⟨h, g, e⟩ | ⟨j, hj, ej, h, g, e⟩
  · rw [if_pos e] at H
    exact br_t h H
  · rw [if_pos e] at H
    exact br_f h (br_f g H)
  · rw [e, if_neg qf_10] at H
    exact br_f h (br_t g (br_t (by decide) H))
theorem qf_app0 {post : Int32 → St2 → Prop} {a1 a2 a3 : Nat → Int32} {x : Int32} (H : post (if qf_io x 3 = 0 then -1 else -3) (nI 1, a1, a2, a3)) : wpX_apply post (nI 1, a1, a2, a3) x := by
  unfold wpX_apply
  rcases qf_c3 x with ⟨h, e⟩ | ⟨h, g, e⟩ | ⟨j, hj, ej, h, g, e⟩
  · rw [if_pos e] at H
    exact br_t h H
  · rw [if_pos e] at H
    exact br_f h (br_f g H)
  · rw [e, if_neg qf_10] at H
    exact br_f h (br_t g (br_f (by decide) H))
theorem qf_hgt {post : Int32 → Prop} {a1 a2 a3 : Nat → Int32} (k : Nat) (hk : k < 6) (e : a3 k = 1) (H : post 1) : wpX_height post (nI (k + 1), a1, a2, a3) := by
  unfold wpX_height
  refine pk_eq (k + 1) 0 (fun z => absurd z (by omega)) (fun _ => ?_)
  rw [nI_pred]
  refine ⟨pk_in k 6 hk, ?_⟩
  rw [nI_clamp (by omega), e]
  exact H
/-- the methods where the constant was pushed -/
theorem qf_cst1 {post : Int32 → St2 → Prop} {a1 a2 a3 : Nat → Int32} {x : Int32} (v : Nat) (hv : v < 101) (hx : x = nI v) (h0 : ¬ x < 0) (h1 : x < 101) (h : qf_D a2)
    (H : ∀ m s b a, qf_Q m s b → m 0 = some v → m 1 = some 1 → a 0 = 0 → post (nI 1) (nI 1, s, b, a)) : wpX_constant post (nI 0, a1, a2, a3) x := by
  unfold wpX_constant
  refine br_f h0 (br_t h1 (br_f (by decide) ?_))
  refine qf_const 0 v (qf_QN h) (fun s b h _ => ?_) rfl hx (by decide) hv
  refine qf_const 1 1 h (fun s b h _ => ?_)
  exact ⟨pk_in 0 6 (by omega), nm_r (e' := upd a3 0 0) (by rw [nI_clamp (by omega)]) (nm_r (nI_1 0) (H _ s b _ h (by simp [qf_set]) (by simp [qf_set]) pk_us))⟩
theorem qf_pow1 {post : Int32 → St2 → Prop} {m : Nat → Option Nat} {a1 a2 a3 : Nat → Int32} {x : Int32} (v : Nat) (hv : v < 101) (h : qf_Q m a1 a2) (e0 : m 0 = some v) (e1 : m 1 = some 1) (h3 : a3 0 = 0)
    (H : ∀ m' s b a w, qf_Q m' s b → m' 0 = some w → m' 1 = some 1 → a 0 = 0 → nI w = qf_pv (nI v) x (qf_io x 3) → post (if qf_io x 3 = 0 then -1 else 1) (nI 1, s, b, a)) : wpX_power post (nI 1, a1, a2, a3) x := by
  have out : qf_io x 3 = 0 → post (-1) (nI 1, a1, a2, a3) := by
    intro e
    have z := H m a1 a2 a3 v h e0 e1 h3 (by rw [e]; rfl)
    rw [if_pos e] at z
    exact z
  rcases qf_c3 x with ⟨h, e⟩ | ⟨h, g, e⟩ | ⟨j, hj, ej, h', g, e⟩
  · unfold wpX_power
    exact br_t h (out e)
  · unfold wpX_power
    exact br_f h (br_f g (out e))
  · refine qf_pow j v h e0 e1 h3 ej hj (fun m' s b a hQ k0 k1 ha => ?_)
    have z := H m' s b a (qf_pw v j) hQ k0 k1 ha (by rw [e, ej]; exact qf_pwv hv hj)
    rw [e, if_neg qf_10] at z
    exact z
theorem qf_val1 {post : Int32 → Prop} {m : Nat → Option Nat} {a1 a2 a3 : Nat → Int32} {x : Int32} (u : Nat) (h : qf_Q m a1 a2) (e0 : m 0 = some u) (e1 : m 1 = some 1) (H : post (if qf_io x 100 = 0 then -1 else nI u)) : wpX_value post (nI 1, a1, a2, a3) x := by
  rcases qf_c100 x with ⟨h, e⟩ | ⟨h, g, e⟩ | ⟨j, hj, ej, h', g, e⟩
  · rw [if_pos e] at H
    unfold wpX_value
    exact br_t h H
  · rw [if_pos e] at H
    unfold wpX_value
    exact br_f h (br_f g H)
  · rw [e, if_neg qf_10] at H
    exact qf_val u h e0 e1 h' g H
theorem qf_app1 {post : Int32 → St2 → Prop} {a1 a2 a3 : Nat → Int32} {x : Int32} (h : qf_D a2) (h2 : a2 2 = 1) (h0 : a3 0 = 0) (h1 : a3 1 = 1)
    (H : ∀ k s b a, k < 6 → a k = 1 → post (if qf_io x 3 = 0 then -1 else 1) (nI (k + 1), s, b, a)) : wpX_apply post (nI 2, a1, a2, a3) x := by
  rcases qf_c3 x with ⟨h, e⟩ | ⟨h, g, e⟩ | ⟨j, hj, ej, h', g, e⟩
  · have z := H 1 a1 a2 a3 (by omega) h1
    rw [if_pos e] at z
    unfold wpX_apply
    exact br_t h z
  · have z := H 1 a1 a2 a3 (by omega) h1
    rw [if_pos e] at z
    unfold wpX_apply
    exact br_f h (br_f g z)
  · refine qf_app h h2 h0 h1 h' g (fun s b a ha => ?_)
    have z := H 0 s b a (by omega) ha
    rw [e, if_neg qf_10] at z
    exact z
theorem qf_law {post : Int32 → St0 → Prop} (hp : post 1 ()) (c n a op : Int32) : wpL_lawOf post 4 994 () c n a op := by
  unfold wpL_lawOf
  refine ⟨by decide, by decide, 3, 990, by decide, by decide, ?_⟩
  unfold wpX_init
  refine ⟨by decide, by decide, by decide, by decide, by decide, by decide, ?_⟩
  have D0 : qf_D (fun _ => 0) := fun r _ => ⟨1, by omega, show (0 : Int32) = qf_dg 1 by decide⟩
  have out : (c < 0 ∨ ¬ c < 0 ∧ ¬ c < 101) → qf_io c 100 = 0 → wpX_constant (fun r_19 u => match u with | (fm0_count_20, am121_23, am122_26, am123_29) => (wpX_power (fun r_30 u => match u with | (fm0_count_31, am201_34, am202_37, am203_40) => (wpX_value (fun r_41 => (wpX_variable (fun r_42 u => match u with | (fm0_count_43, am351_46, am352_49, am353_52) => (wpX_apply (fun r_53 u => match u with | (fm0_count_54, am431_57, am432_60, am433_63) => (wpX_height (fun r_64 => (((c < 0 → (wL_lawOf_69 post 4 994 c n a op r_19 r_30 r_41 r_42 r_53 r_64 (1 + 3) (4 + 990))) ∧ (¬ c < 0 → (((100 < c → (wL_lawOf_69 post 4 994 c n a op r_19 r_30 r_41 r_42 r_53 r_64 (1 + 3) (4 + 990))) ∧ (¬ 100 < c → (wL_lawOf_70 post 4 994 c n a op r_19 r_30 r_41 r_42 r_53 r_64 1 (1 + 3) (4 + 990))))))))) (fm0_count_54, am431_57, am432_60, am433_63))) (fm0_count_43, am351_46, am352_49, am353_52) op)) (fm0_count_31, am201_34, am202_37, am203_40))) (fm0_count_31, am201_34, am202_37, am203_40) a)) (fm0_count_20, am121_23, am122_26, am123_29) n)) (nI 0, (fun _ => 0), (fun _ => 0), (fun _ => 0)) c := by
    intro hc ec
    refine qf_cst0 hc (qf_pow0 (qf_val0 (qf_var 0 (by omega) D0 (fun s b hb _ => qf_app0 (qf_hgt 0 (by omega) pk_us (qf_tail hp rfl ?_ ?_ ?_ ?_ ?_))))))
    · rw [ec]
      rfl
    · rw [ec]
      rfl
    · rw [ec]
      rfl
    · rw [ec]
      rfl
    · rw [ec]
      rfl
  rcases qf_c100 c with ⟨h, e⟩ | ⟨h, g, e⟩ | ⟨v, hv, ev, h, g, e⟩
  · exact out (Or.inl h) e
  · exact out (Or.inr ⟨h, g⟩) e
  · refine qf_cst1 v hv ev h g D0 (fun m s b a3 hQ k0 k1 ha => ?_)
    refine qf_pow1 v hv hQ k0 k1 ha (fun m s b a3 w hQ k0 k1 ha hw => ?_)
    refine qf_val1 w hQ k0 k1 ?_
    refine qf_var 1 (by omega) hQ.1 (fun s b hb h2 => ?_)
    refine qf_app1 hb h2 ((pk_un (by decide)).trans ha) pk_us (fun k s b a3 hk hk1 => qf_hgt k hk hk1 ?_)
    refine qf_tail hp rfl ?_ ?_ ?_ ?_ ?_
    · rw [e]
      rfl
    · rw [e]
      rfl
    · rw [e, if_neg qf_10, hw, ev]
    · rw [e]
      rfl
    · rw [e]
      rfl
theorem qf_cell {post : Int32 → Prop} {L : Nat} {xs : Nat → Int32} {x : Int32} (k : Nat) (hL : L ≤ 4) (hk : k < 4) (H : ∀ r, post r) (hx : x = nI k := by rfl) : wpL_cellAt post L xs () x :=
  pk_le L k (fun _ => H _) (fun z => ⟨pk_in k L z hx, H _⟩) rfl hx
end
section
theorem i_vc (xs : Nat → Int32) (L : Nat) (hL : L ≤ 4) : wpL_law (fun r => r = 1) L xs := by
  unfold wpL_law
  exact qf_cell 0 hL (by omega) (fun c => qf_cell 1 hL (by omega) (fun n => qf_cell 2 hL (by omega) (fun a => qf_cell 3 hL (by omega) (fun op => ⟨4, 994, by omega, by omega, qf_law rfl c n a op⟩))))
end
