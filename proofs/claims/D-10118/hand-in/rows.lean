section
/-! ===== sums over 0 .. n-1, counts of pages in a frame, the counting law ===== -/
def sg_sum (f : Nat → Nat) : Nat → Nat
  | 0 => 0
  | n + 1 => sg_sum f n + f n
theorem sg_sum_s (f : Nat → Nat) (n : Nat) : sg_sum f (n + 1) = sg_sum f n + f n := rfl
theorem sg_sum_congr {f f' : Nat → Nat} {n : Nat} (h : ∀ i, i < n → f i = f' i) : sg_sum f n = sg_sum f' n := by
  induction n with
  | zero => rfl
  | succ n ih =>
    rw [sg_sum_s, sg_sum_s, ih (fun i hi => h i (by omega)), h n (by omega)]
theorem sg_sum_add (f f' : Nat → Nat) (n : Nat) : sg_sum (fun i => f i + f' i) n = sg_sum f n + sg_sum f' n := by
  induction n with
  | zero => rfl
  | succ n ih =>
    rw [sg_sum_s, sg_sum_s, sg_sum_s, ih]
    omega
theorem sg_sum_zero {f : Nat → Nat} {n : Nat} (h : ∀ i, i < n → f i = 0) : sg_sum f n = 0 := by
  induction n with
  | zero => rfl
  | succ n ih =>
    rw [sg_sum_s, ih (fun i hi => h i (by omega)), h n (by omega)]
theorem sg_sum_pt {f f' : Nat → Nat} {n k : Nat} (hk : k < n) (h : ∀ i, i < n → i ≠ k → f' i = f i) : sg_sum f' n + f k = sg_sum f n + f' k := by
  induction n with
  | zero => omega
  | succ n ih =>
    rw [sg_sum_s, sg_sum_s]
    by_cases e : k = n
    · have t : sg_sum f' n = sg_sum f n := sg_sum_congr (fun i hi => h i (by omega) (by omega))
      rw [t, e]
      omega
    · have t := ih (by omega) (fun i hi hn => h i (by omega) hn)
      have t2 := h n (by omega) (by omega)
      omega
theorem sg_sum_one {f : Nat → Nat} {n k : Nat} (hk : k < n) (h : ∀ i, i < n → i ≠ k → f i = 0) : sg_sum f n = f k := by
  have t := sg_sum_pt (f := fun _ => 0) (f' := f) hk h
  have t2 : sg_sum (fun _ => 0) n = 0 := sg_sum_zero (fun _ _ => rfl)
  omega
theorem sg_sum_swap (F : Nat → Nat → Nat) (m n : Nat) : sg_sum (fun i => sg_sum (fun j => F i j) n) m = sg_sum (fun j => sg_sum (fun i => F i j) m) n := by
  induction m with
  | zero =>
    exact (sg_sum_zero (n := n) (fun _ _ => rfl)).symm
  | succ m ih =>
    rw [sg_sum_s, ih, ← sg_sum_add]
    exact sg_sum_congr (fun i _ => rfl)
theorem sg_sum_le {f : Nat → Nat} {n : Nat} (h : ∀ i, i < n → f i ≤ 1) : sg_sum f n ≤ n := by
  induction n with
  | zero => exact Nat.le_refl 0
  | succ n ih =>
    have t := ih (fun i hi => h i (by omega))
    have t2 := h n (by omega)
    rw [sg_sum_s]
    omega
theorem sg_sum_full {f : Nat → Nat} {n : Nat} (h : ∀ i, i < n → f i ≤ 1) (hs : sg_sum f n = n) : ∀ i, i < n → f i = 1 := by
  induction n with
  | zero => intro i hi; omega
  | succ n ih =>
    have t := sg_sum_le (n := n) (fun i hi => h i (by omega))
    have t2 := h n (by omega)
    rw [sg_sum_s] at hs
    intro i hi
    by_cases e : i = n
    · rw [e]; omega
    · exact ih (fun i hi => h i (by omega)) (by omega) i (by omega)
theorem sg_sum_all {f : Nat → Nat} {n : Nat} (h : ∀ i, i < n → f i = 1) : sg_sum f n = n := by
  induction n with
  | zero => rfl
  | succ n ih => rw [sg_sum_s, ih (fun i hi => h i (by omega)), h n (by omega)]
theorem sg_sum_lt {f : Nat → Nat} {n : Nat} (h : ∀ i, i < n → f i ≤ 1) (hs : sg_sum f n ≠ n) : ∃ i, i < n ∧ f i = 0 := by
  apply Classical.byContradiction
  intro hc
  apply hs
  apply sg_sum_all
  intro i hi
  have t := h i hi
  have t2 : ¬ f i = 0 := fun z => hc ⟨i, hi, z⟩
  omega
/-- an indicator is at most one -/
theorem sg_ind (c : Prop) [Decidable c] : (if c then 1 else 0) ≤ 1 := by
  by_cases h : c
  · rw [if_pos h]; exact Nat.le_refl 1
  · rw [if_neg h]; exact Nat.zero_le 1
/-- how many of the 32 pages lie in frame f -/
def sg_cnt (g : Nat → Nat) (f : Nat) : Nat := sg_sum (fun p => if g p = f then 1 else 0) 32
def sg_up (g : Nat → Nat) (p k : Nat) : Nat → Nat := fun j => if j = p then k else g j
theorem sg_ups {g : Nat → Nat} {p k : Nat} : sg_up g p k p = k := if_pos rfl
theorem sg_upn {g : Nat → Nat} {p k j : Nat} (h : j ≠ p) : sg_up g p k j = g j := if_neg h
theorem sg_cnt_le (g : Nat → Nat) (f : Nat) : sg_cnt g f ≤ 32 := sg_sum_le (fun i _ => sg_ind _)
theorem sg_cnt_up {g : Nat → Nat} {p : Nat} (k f : Nat) (hp : p < 32) : sg_cnt (sg_up g p k) f + (if g p = f then 1 else 0) = sg_cnt g f + (if k = f then 1 else 0) := by
  have t := sg_sum_pt (f := fun p => if g p = f then 1 else 0) (f' := fun q => if sg_up g p k q = f then 1 else 0) hp (fun i _ hn => by
    rw [sg_upn hn])
  rw [sg_ups] at t
  exact t
theorem sg_cnt_none {g : Nat → Nat} {f : Nat} (h : ∀ p, p < 32 → g p ≠ f) : sg_cnt g f = 0 := sg_sum_zero (fun i hi => if_neg (h i hi))
theorem sg_cnt_pos {g : Nat → Nat} {f p : Nat} (hp : p < 32) (h : g p = f) : 1 ≤ sg_cnt g f := by
  have t := sg_cnt_up (g := g) (f + 1) f hp
  rw [if_pos h, if_neg (show ¬ f + 1 = f by omega)] at t
  omega
theorem sg_cnt_two {g : Nat → Nat} {f p q : Nat} (hp : p < 32) (hq : q < 32) (hn : q ≠ p) (h : g p = f) (h' : g q = f) : 2 ≤ sg_cnt g f := by
  have t := sg_cnt_up (g := g) (f + 1) f hp
  rw [if_pos h, if_neg (show ¬ f + 1 = f by omega)] at t
  have t2 : 1 ≤ sg_cnt (sg_up g p (f + 1)) f := sg_cnt_pos hq (by rw [sg_upn hn]; exact h')
  omega
theorem sg_cnt_0 {g : Nat → Nat} {f p : Nat} (hc : sg_cnt g f = 0) (hp : p < 32) : g p ≠ f := by
  intro h
  have t := sg_cnt_pos hp h
  omega
theorem sg_cnt_1 {g : Nat → Nat} {f p q : Nat} (hc : sg_cnt g f = 1) (hp : p < 32) (hq : q < 32) (h : g p = f) (h' : g q = f) : p = q := by
  by_cases e : q = p
  · exact e.symm
  · have t := sg_cnt_two hp hq e h h'
    omega
theorem sg_cnt_ex {g : Nat → Nat} {f : Nat} (h : 0 < sg_cnt g f) : ∃ p, p < 32 ∧ g p = f := by
  apply Classical.byContradiction
  intro hc
  have t : sg_cnt g f = 0 := sg_cnt_none (fun p hp e => hc ⟨p, hp, e⟩)
  omega
/-- a frame whose pages all have one number modulo 16 holds at most two of them -/
theorem sg_cnt_le2 {g : Nat → Nat} {f p : Nat} (hp : p < 32) (h : g p = f) (hs : ∀ q, q < 32 → g q = f → q % 16 = p % 16) : sg_cnt g f ≤ 2 := by
  have t := sg_cnt_up (g := g) (f + 1) f hp
  rw [if_pos h, if_neg (show ¬ f + 1 = f by omega)] at t
  have hw : (p + 16) % 32 < 32 := by omega
  have t2 := sg_cnt_up (g := sg_up g p (f + 1)) (f + 1) f hw
  rw [if_neg (show ¬ f + 1 = f by omega)] at t2
  have t3 : sg_cnt (sg_up (sg_up g p (f + 1)) ((p + 16) % 32) (f + 1)) f = 0 := by
    apply sg_cnt_none
    intro q hq e
    by_cases e1 : q = (p + 16) % 32
    · rw [e1, sg_ups] at e
      omega
    · rw [sg_upn e1] at e
      by_cases e2 : q = p
      · rw [e2, sg_ups] at e
        omega
      · rw [sg_upn e2] at e
        have t4 := hs q hq e
        omega
  have t5 := sg_ind (sg_up g p (f + 1) ((p + 16) % 32) = f)
  omega
/-- the same, the twin being elsewhere -/
theorem sg_cnt_is1 {g : Nat → Nat} {f p : Nat} (hp : p < 32) (h : g p = f) (hs : ∀ q, q < 32 → g q = f → q = p) : sg_cnt g f = 1 := by
  have t := sg_cnt_up (g := g) (f + 1) f hp
  rw [if_pos h, if_neg (show ¬ f + 1 = f by omega)] at t
  have t3 : sg_cnt (sg_up g p (f + 1)) f = 0 := by
    apply sg_cnt_none
    intro q hq e
    by_cases e2 : q = p
    · rw [e2, sg_ups] at e
      omega
    · rw [sg_upn e2] at e
      exact e2 (hs q hq e)
  omega
/-- frames in use, pages common to both, pages present: the counting law of one frame -/
theorem sg_law1 {g : Nat → Nat} (f : Nat) (hs : ∀ p q, p < 32 → q < 32 → g p = f → g q = f → p % 16 = q % 16) :
    (if 0 < sg_cnt g f then 1 else 0) + sg_sum (fun v => if g v = f ∧ g (16 + v) = f then 1 else 0) 16 = sg_sum (fun v => if g v = f then 1 else 0) 16 + sg_sum (fun v => if g (16 + v) = f then 1 else 0) 16 := by
  by_cases hc : 0 < sg_cnt g f
  · obtain ⟨p, hp, hg⟩ := sg_cnt_ex hc
    have hv : p % 16 < 16 := by omega
    have k1 : ∀ i, i < 16 → i ≠ p % 16 → ¬ g i = f := fun i hi hn e => by
      have t := hs p i hp (by omega) hg e
      omega
    have k2 : ∀ i, i < 16 → i ≠ p % 16 → ¬ g (16 + i) = f := fun i hi hn e => by
      have t := hs p (16 + i) hp (by omega) hg e
      omega
    rw [if_pos hc, sg_sum_one hv (fun i hi hn => if_neg (fun z => k1 i hi hn z.1)), sg_sum_one hv (fun i hi hn => if_neg (k1 i hi hn)), sg_sum_one hv (fun i hi hn => if_neg (k2 i hi hn))]
    by_cases e1 : g (p % 16) = f
    · by_cases e2 : g (16 + p % 16) = f
      · rw [if_pos ⟨e1, e2⟩, if_pos e1, if_pos e2]
      · rw [if_neg (fun z => e2 z.2), if_pos e1, if_neg e2]
    · by_cases e2 : g (16 + p % 16) = f
      · rw [if_neg (fun z => e1 z.1), if_neg e1, if_pos e2]
      · exfalso
        rcases (show p = p % 16 ∨ p = 16 + p % 16 by omega) with z | z
        · rw [← z] at e1; exact e1 hg
        · rw [← z] at e2; exact e2 hg
  · have hc' : sg_cnt g f = 0 := by omega
    rw [if_neg hc, sg_sum_zero (fun i hi => if_neg (fun z => sg_cnt_0 hc' (show i < 32 by omega) z.1)), sg_sum_zero (fun i hi => if_neg (sg_cnt_0 hc' (show i < 32 by omega))), sg_sum_zero (fun i hi => if_neg (sg_cnt_0 hc' (show 16 + i < 32 by omega)))]
theorem sg_law {g : Nat → Nat} (hs : ∀ p q, p < 32 → q < 32 → g p < 16 → g p = g q → p % 16 = q % 16) :
    sg_sum (fun f => if 0 < sg_cnt g f then 1 else 0) 16 + sg_sum (fun v => if g v < 16 ∧ g v = g (16 + v) then 1 else 0) 16 = sg_sum (fun v => if g v < 16 then 1 else 0) 16 + sg_sum (fun v => if g (16 + v) < 16 then 1 else 0) 16 := by
  have q1 : ∀ k, (if k < 16 then 1 else 0) = sg_sum (fun f => if k = f then 1 else 0) 16 := by
    intro k
    by_cases e : k < 16
    · rw [if_pos e, sg_sum_one e (fun i hi hn => if_neg (fun z => hn z.symm)), if_pos rfl]
    · rw [if_neg e, sg_sum_zero (fun i hi => if_neg (by omega))]
  have q2 : ∀ k l, (if k < 16 ∧ k = l then 1 else 0) = sg_sum (fun f => if k = f ∧ l = f then 1 else 0) 16 := by
    intro k l
    by_cases e : k < 16
    · rw [sg_sum_one e (fun i hi hn => if_neg (fun z => hn z.1.symm))]
      by_cases e2 : k = l
      · rw [if_pos ⟨e, e2⟩, if_pos ⟨rfl, e2.symm⟩]
      · rw [if_neg (fun z => e2 z.2), if_neg (fun z => e2 z.2.symm)]
    · rw [if_neg (fun z => e z.1), sg_sum_zero (fun i hi => if_neg (by omega))]
  rw [sg_sum_congr (f := fun v => if g v < 16 ∧ g v = g (16 + v) then 1 else 0) (fun v _ => q2 (g v) (g (16 + v))), sg_sum_congr (f := fun v => if g v < 16 then 1 else 0) (fun v _ => q1 (g v)), sg_sum_congr (f := fun v => if g (16 + v) < 16 then 1 else 0) (fun v _ => q1 (g (16 + v)))]
  rw [sg_sum_swap (fun v f => if g v = f ∧ g (16 + v) = f then 1 else 0), sg_sum_swap (fun v f => if g v = f then 1 else 0), sg_sum_swap (fun v f => if g (16 + v) = f then 1 else 0), ← sg_sum_add, ← sg_sum_add]
  exact sg_sum_congr (fun f hf => sg_law1 f (fun p q hp hq e e' => hs p q hp hq (by omega) (by omega)))
end
section
/-! ===== the picture: g p is the frame of page p, 16 if it has none ===== -/
def sg_mt (x : Int32) (k : Nat) : Prop := (k < 16 ∧ x = nI k) ∨ (k = 16 ∧ x < 0)
/-- users, base and large hold the picture g -/
def sg_I (a2 a3 a5 : Nat → Int32) (g : Nat → Nat) : Prop :=
  (∀ p, p < 32 → (a5 (p / 4) < 0 ∧ sg_mt (a3 p) (g p)) ∨ (∃ e, e < 4 ∧ a5 (p / 4) = nI e ∧ g p = 4 * e + p % 4)) ∧
  (∀ p q, p < 32 → q < 32 → g p < 16 → g p = g q → p % 16 = q % 16 ∧ (¬ a5 (p / 4) < 0 → p = q)) ∧
  (∀ f, f < 16 → a2 f = nI (sg_cnt g f))
theorem sg_nneg {e : Nat} (h : e < 2 ^ 31) {x : Int32} (hx : x = nI e) : ¬ x < 0 := by
  rw [hx]
  exact nI_pos h
theorem sg_mt_neg {x : Int32} {k : Nat} (h : sg_mt x k) (hx : x < 0) : k = 16 := by
  rcases h with ⟨h1, h2⟩ | ⟨h1, _⟩
  · exact absurd hx (sg_nneg (by omega) h2)
  · exact h1
theorem sg_mt_pos {x : Int32} {k : Nat} (h : sg_mt x k) (hx : ¬ x < 0) : k < 16 ∧ x = nI k := by
  rcases h with h1 | ⟨_, h2⟩
  · exact h1
  · exact absurd h2 hx
theorem sg_I_le {a2 a3 a5 : Nat → Int32} {g : Nat → Nat} (h : sg_I a2 a3 a5 g) {p : Nat} (hp : p < 32) : g p ≤ 16 := by
  rcases h.1 p hp with ⟨_, ⟨h1, _⟩ | ⟨h1, _⟩⟩ | ⟨e, he, _, h1⟩
  · omega
  · omega
  · omega
theorem sg_I_abs {a2 a3 a5 : Nat → Int32} {g : Nat → Nat} (h : sg_I a2 a3 a5 g) {p : Nat} (hp : p < 32) (ha : g p = 16) : a5 (p / 4) < 0 := by
  rcases h.1 p hp with ⟨h1, _⟩ | ⟨e, he, _, h1⟩
  · exact h1
  · omega
/-- the small entry of a page whose range has no large one -/
theorem sg_I_small {a2 a3 a5 : Nat → Int32} {g : Nat → Nat} (h : sg_I a2 a3 a5 g) {p : Nat} (hp : p < 32) (hl : a5 (p / 4) < 0) : sg_mt (a3 p) (g p) := by
  rcases h.1 p hp with ⟨_, h1⟩ | ⟨e, he, h1, _⟩
  · exact h1
  · exact absurd hl (sg_nneg (by omega) h1)
theorem sg_I_sh {a2 a3 a5 : Nat → Int32} {g : Nat → Nat} (h : sg_I a2 a3 a5 g) : ∀ p q, p < 32 → q < 32 → g p < 16 → g p = g q → p % 16 = q % 16 := fun p q hp hq hg e => (h.2.1 p q hp hq hg e).1
/-- a page of a shared frame has no large entry -/
theorem sg_I_two {a2 a3 a5 : Nat → Int32} {g : Nat → Nat} (h : sg_I a2 a3 a5 g) {p : Nat} (hp : p < 32) (hg : g p < 16) (hc : sg_cnt g (g p) ≠ 1) : a5 (p / 4) < 0 := by
  apply Classical.byContradiction
  intro hl
  exact hc (sg_cnt_is1 hp rfl (fun q hq e => ((h.2.1 p q hp hq hg e.symm).2 hl).symm))
/-- page p goes to k (16: nowhere) -/
theorem sg_move {a2 a3 a5 a2' : Nat → Int32} {g : Nat → Nat} (h : sg_I a2 a3 a5 g) {p k : Nat} {x : Int32} (hp : p < 32) (hl : a5 (p / 4) < 0) (hx : sg_mt x k)
    (hs : ∀ q, q < 32 → q ≠ p → k < 16 → g q = k → q % 16 = p % 16 ∧ a5 (q / 4) < 0)
    (h2 : ∀ f, f < 16 → a2' f = nI (sg_cnt (sg_up g p k) f)) : sg_I a2' (upd a3 p x) a5 (sg_up g p k) := by
  refine ⟨fun q hq => ?_, fun q r hq hr hg e => ?_, h2⟩
  · by_cases e : q = p
    · rw [e, pk_us, sg_ups]
      exact Or.inl ⟨hl, hx⟩
    · rw [pk_un e, sg_upn e]
      exact h.1 q hq
  · by_cases e1 : q = p
    · by_cases e2 : r = p
      · exact ⟨by rw [e1, e2], fun _ => by rw [e1, e2]⟩
      · rw [e1, sg_ups] at hg e
        rw [sg_upn e2] at e
        have t := hs r hr e2 hg e.symm
        exact ⟨by rw [e1]; exact t.1.symm, fun z => absurd (by rw [e1]; exact hl) z⟩
    · rw [sg_upn e1] at hg e
      by_cases e2 : r = p
      · rw [e2, sg_ups] at e
        have t := hs q hq e1 (by omega) e
        exact ⟨by rw [e2]; exact t.1, fun z => absurd t.2 z⟩
      · rw [sg_upn e2] at e
        exact h.2.1 q r hq hr hg e
/-- page p leaves its frame -/
theorem sg_drop {a2 a3 a5 : Nat → Int32} {g : Nat → Nat} (h : sg_I a2 a3 a5 g) {p f : Nat} {x : Int32} (hp : p < 32) (hl : a5 (p / 4) < 0) (hf : g p = f) (hk : f < 16) (hx : x < 0) :
    sg_I (upd a2 f (a2 f - 1)) (upd a3 p x) a5 (sg_up g p 16) := by
  refine sg_move h hp hl (Or.inr ⟨rfl, hx⟩) (fun q _ _ z _ => absurd z (by omega)) (fun f' hf' => ?_)
  have t := sg_cnt_up (g := g) 16 f' hp
  rw [if_neg (show ¬ 16 = f' by omega)] at t
  by_cases e : f' = f
  · rw [e] at t ⊢
    rw [if_pos hf] at t
    rw [pk_us, h.2.2 f hk, show sg_cnt g f = sg_cnt (sg_up g p 16) f + 1 by omega]
    exact nI_pred _
  · rw [pk_un e, h.2.2 f' hf']
    rw [if_neg (by omega)] at t
    rw [show sg_cnt g f' = sg_cnt (sg_up g p 16) f' by omega]
/-- an absent page comes into a free frame -/
theorem sg_come {a2 a3 a5 : Nat → Int32} {g : Nat → Nat} (h : sg_I a2 a3 a5 g) {p f : Nat} (hp : p < 32) (ha : g p = 16) (hk : f < 16) (hc : sg_cnt g f = 0) :
    sg_I (upd a2 f 1) (upd a3 p (nI f)) a5 (sg_up g p f) := by
  refine sg_move h hp (sg_I_abs h hp ha) (Or.inl ⟨hk, rfl⟩) (fun q hq _ _ z => absurd z (sg_cnt_0 hc hq)) (fun f' hf' => ?_)
  have t := sg_cnt_up (g := g) f f' hp
  rw [if_neg (show ¬ g p = f' by omega)] at t
  by_cases e : f' = f
  · rw [e] at t ⊢
    rw [if_pos rfl] at t
    rw [pk_us, show sg_cnt (sg_up g p f) f = 1 by omega]
    rfl
  · rw [if_neg (show ¬ f = f' by omega)] at t
    rw [pk_un e, h.2.2 f' hf', show sg_cnt g f' = sg_cnt (sg_up g p f) f' by omega]
/-- page p goes from its frame to a free one; n pages stay behind -/
theorem sg_go {a2 a3 a5 : Nat → Int32} {g : Nat → Nat} (h : sg_I a2 a3 a5 g) {p f k n : Nat} {y : Int32} (hp : p < 32) (hl : a5 (p / 4) < 0) (hf : g p = f) (hfk : f < 16) (hk : k < 16) (hc : sg_cnt g k = 0) (hn : sg_cnt g f = n + 1) (hy : y = nI n) :
    sg_I (upd (upd a2 f y) k 1) (upd a3 p (nI k)) a5 (sg_up g p k) := by
  have hne : f ≠ k := fun z => by
    rw [z] at hn
    omega
  refine sg_move h hp hl (Or.inl ⟨hk, rfl⟩) (fun q hq _ _ z => absurd z (sg_cnt_0 hc hq)) (fun f' hf' => ?_)
  have t := sg_cnt_up (g := g) k f' hp
  by_cases e : f' = k
  · rw [e] at t ⊢
    rw [if_pos rfl, if_neg (by omega)] at t
    rw [pk_us, show sg_cnt (sg_up g p k) k = 1 by omega]
    rfl
  · rw [if_neg (show ¬ k = f' by omega)] at t
    rw [pk_un e]
    by_cases e2 : f' = f
    · rw [e2] at t ⊢
      rw [if_pos hf] at t
      rw [pk_us, hy, show sg_cnt (sg_up g p k) f = n by omega]
    · rw [if_neg (show ¬ g p = f' by omega)] at t
      rw [pk_un e2, h.2.2 f' hf', show sg_cnt g f' = sg_cnt (sg_up g p k) f' by omega]
/-- page p comes into the frame of its twin q, which is alone there -/
theorem sg_share {a2 a3 a5 : Nat → Int32} {g : Nat → Nat} (h : sg_I a2 a3 a5 g) {p q f : Nat} (hp : p < 32) (hq : q < 32) (hpq : q % 16 = p % 16) (ha : g p = 16) (hf : g q = f) (hk : f < 16) (hl : ∀ r, r < 8 → a5 r < 0) :
    sg_I (upd a2 f 2) (upd a3 p (nI f)) a5 (sg_up g p f) := by
  have hc : sg_cnt g f = 1 := sg_cnt_is1 hq hf (fun r hr e => by
    have t := sg_I_sh h q r hq hr (by omega) (by omega)
    have t2 : r ≠ p := fun z => by
      rw [z] at e
      omega
    have t3 : q ≠ p := fun z => by
      rw [z] at hf
      omega
    omega)
  refine sg_move h hp (hl _ (by omega)) (Or.inl ⟨hk, rfl⟩) (fun r hr _ _ z => ?_) (fun f' hf' => ?_)
  · have t := sg_I_sh h q r hq hr (by omega) (by omega)
    exact ⟨by omega, hl _ (by omega)⟩
  · have t := sg_cnt_up (g := g) f f' hp
    rw [if_neg (show ¬ g p = f' by omega)] at t
    by_cases e : f' = f
    · rw [e] at t ⊢
      rw [if_pos rfl] at t
      rw [pk_us, show sg_cnt (sg_up g p f) f = 2 by omega]
      rfl
    · rw [if_neg (show ¬ f = f' by omega)] at t
      rw [pk_un e, h.2.2 f' hf', show sg_cnt g f' = sg_cnt (sg_up g p f) f' by omega]
/-- a large entry is broken up -/
theorem sg_demo {a2 a3 a5 a3' : Nat → Int32} {g : Nat → Nat} (h : sg_I a2 a3 a5 g) {r e : Nat} {x : Int32} (hr : r < 8) (hx : x < 0) (hl : a5 r = nI e) (he : e < 4)
    (h3 : ∀ i, i < 4 → a3' (4 * r + i) = nI (4 * e + i)) (ho : ∀ p, p / 4 ≠ r → a3' p = a3 p) : sg_I a2 a3' (upd a5 r x) g := by
  refine ⟨fun p hp => ?_, fun p q hp hq hg e1 => ?_, h.2.2⟩
  · by_cases z : p / 4 = r
    · rw [z, pk_us]
      refine Or.inl ⟨hx, Or.inl ?_⟩
      have t : g p = 4 * e + p % 4 := by
        rcases h.1 p hp with ⟨h1, _⟩ | ⟨e', he', h1, h2⟩
        · rw [z, hl] at h1
          exact absurd h1 (nI_pos (by omega))
        · rw [z, hl] at h1
          have t2 := (nI_eq (by omega) (by omega)).mp h1
          omega
      refine ⟨by omega, ?_⟩
      have t2 := h3 (p % 4) (by omega)
      rw [show 4 * r + p % 4 = p by omega] at t2
      rw [t2, t]
    · rw [pk_un z, ho p z]
      exact h.1 p hp
  · refine ⟨(h.2.1 p q hp hq hg e1).1, fun hz => ?_⟩
    by_cases z : p / 4 = r
    · rw [z, pk_us] at hz
      exact absurd hx hz
    · rw [pk_un z] at hz
      exact (h.2.1 p q hp hq hg e1).2 hz
/-- four pages in place and unshared become a large entry -/
theorem sg_prom {a2 a3 a5 a3' : Nat → Int32} {g : Nat → Nat} (h : sg_I a2 a3 a5 g) {r e : Nat} (hr : r < 8) (he : e < 4)
    (hg : ∀ i, i < 4 → g (4 * r + i) = 4 * e + i) (hc : ∀ i, i < 4 → sg_cnt g (4 * e + i) = 1) (ho : ∀ p, p / 4 ≠ r → a3' p = a3 p) : sg_I a2 a3' (upd a5 r (nI e)) g := by
  refine ⟨fun p hp => ?_, fun p q hp hq hgp e1 => ?_, h.2.2⟩
  · by_cases z : p / 4 = r
    · rw [z, pk_us]
      refine Or.inr ⟨e, he, rfl, ?_⟩
      have t2 := hg (p % 4) (by omega)
      rw [show 4 * r + p % 4 = p by omega] at t2
      exact t2
    · rw [pk_un z, ho p z]
      exact h.1 p hp
  · refine ⟨(h.2.1 p q hp hq hgp e1).1, fun hz => ?_⟩
    by_cases z : p / 4 = r
    · have t2 := hg (p % 4) (by omega)
      rw [show 4 * r + p % 4 = p by omega] at t2
      exact sg_cnt_1 (hc (p % 4) (by omega)) hp hq t2 (by omega)
    · rw [pk_un z] at hz
      exact (h.2.1 p q hp hq hgp e1).2 hz
end
section
/-! ===== the methods that only read ===== -/
theorem sg_m4 (e : Nat) : nI e * 4 = nI (4 * e) := by
  rw [Nat.mul_comm]
  exact pk_mul e 4
theorem sg_m16 (e : Nat) : nI e * 16 = nI (16 * e) := by
  rw [Nat.mul_comm]
  exact pk_mul e 16
theorem sg_ix (e i : Nat) : nI e * 4 + nI i = nI (4 * e + i) := by
  rw [sg_m4, nI_add]
theorem sg_pg (e i : Nat) : nI e * 16 + nI i = nI (16 * e + i) := by
  rw [sg_m16, nI_add]
theorem sg_s2 {p : Nat} (hp : p < 2 ^ 31) : nI p >>> ((2 : Int32) &&& 31) = nI (p / 4) := pk_shrN hp _ 2 (by decide)
theorem sg_a3 {p : Nat} (hp : p < 2 ^ 32) : nI p &&& 3 = nI (p % 4) := pk_andN hp 2 (by decide)
theorem sg_le0 {x : Int32} : 0 ≤ x ↔ ¬ x < 0 := Int32.not_lt.symm
section
variable {c : Int32} {a1 a2 a3 a4 a5 a6 a7 a8 : Nat → Int32} {g u : Nat → Nat}
theorem sg_bad {post : Int32 → Prop} {p v : Nat} (hp : p < 2) (hv : v < 2 ^ 31) (H0 : v < 16 → post 0) (H1 : 16 ≤ v → post 1) : wpX_bad post (c, a1, a2, a3, a4, a5, a6, a7, a8) (nI p) (nI v) := by
  unfold wpX_bad
  exact br_f (nI_pos (by omega)) (pk_lt 1 p (fun z => absurd z (by omega)) (fun _ => br_f (nI_pos hv) (pk_le v 15 (fun z => H0 (by omega)) (fun z => H1 (by omega)))))
theorem sg_frameOf {post : Int32 → Prop} (h : sg_I a2 a3 a5 g) {p : Nat} (hp : p < 32) (H1 : g p < 16 → post (nI (g p))) (H2 : g p = 16 → ∀ r, r < 0 → post r) : wpX_frameOf post (c, a1, a2, a3, a4, a5, a6, a7, a8) (nI p) := by
  unfold wpX_frameOf
  dsimp only
  rw [sg_s2 (by omega), sg_a3 (by omega), nI_clamp (show p / 4 < 2 ^ 31 by omega), nI_clamp (show p < 2 ^ 31 by omega)]
  refine ⟨vp_in_nI (by omega) (by omega), nm_e ?_⟩
  rcases h.1 p hp with ⟨hl, hm⟩ | ⟨e, he, hl, hg⟩
  · refine br_t hl ⟨vp_in_nI (by omega) (by omega), ?_⟩
    rcases hm with ⟨hk, hx⟩ | ⟨hk, hx⟩
    · rw [hx]
      exact H1 hk
    · exact H2 hk _ hx
  · rw [hl]
    refine br_f (nI_pos (by omega)) ?_
    rw [sg_ix, ← hg]
    exact H1 (by omega)
theorem sg_fIU {post : Int32 → Prop} (h2 : ∀ f, f < 16 → a2 f = nI (u f)) (hu : ∀ f, f < 16 → u f ≤ 32) (H : post (nI (sg_sum (fun f => if 0 < u f then 1 else 0) 16))) : wpX_framesInUse post (c, a1, a2, a3, a4, a5, a6, a7, a8) := by
  unfold wpX_framesInUse
  dsimp only
  refine pk_loop (σ := Unit) (fun n i _ => wX_framesInUse_4 post c a1 a2 a3 a4 a5 a6 a7 a8 n (nI (sg_sum (fun f => if 0 < u f then 1 else 0) i)) (nI i)) (fun _ _ => True) 16 0 () (by omega) trivial
    (fun n _ _ => pk_le 16 16 (fun _ => H) (fun z => absurd z (by omega)))
    (fun n i _ hi _ hw => pk_le 16 i (fun z => absurd z (by omega)) (fun _ => ⟨pk_in i 16 (by omega), ?_⟩))
  have t : wX_framesInUse_4 post c a1 a2 a3 a4 a5 a6 a7 a8 n (nI (sg_sum (fun f => if 0 < u f then 1 else 0) (i + 1))) (nI (i + 1)) := hw () trivial
  rw [sg_sum_s] at t
  have hui := hu i hi
  rw [nI_clamp (show i < 2 ^ 31 by omega), h2 i hi]
  refine pk_le (u i) 0 (fun z => nm_r (nI_1 i) ?_) (fun z => nm_r (nI_1 _) (nm_r (nI_1 i) ?_))
  · rw [if_neg (by omega)] at t
    exact t
  · rw [if_pos z] at t
    exact t
theorem sg_inUse {post : Int32 → Prop} (h : sg_I a2 a3 a5 g) (H : post (nI (sg_sum (fun f => if 0 < sg_cnt g f then 1 else 0) 16))) : wpX_inUse post (c, a1, a2, a3, a4, a5, a6, a7, a8) := by
  unfold wpX_inUse
  exact sg_fIU (u := sg_cnt g) h.2.2 (fun f _ => sg_cnt_le g f) H
theorem sg_present {post : Int32 → Prop} (h : sg_I a2 a3 a5 g) {p : Nat} (hp : p < 2) (H : post (nI (sg_sum (fun v => if g (16 * p + v) < 16 then 1 else 0) 16))) : wpX_present post (c, a1, a2, a3, a4, a5, a6, a7, a8) (nI p) := by
  unfold wpX_present
  dsimp only
  refine br_f (nI_pos (by omega)) (pk_le p 1 (fun _ => ?_) (fun z => absurd z (by omega)))
  refine pk_loop (σ := Unit) (fun n i _ => wX_present_15 post (nI p) c a1 a2 a3 a4 a5 a6 a7 a8 n (nI (sg_sum (fun v => if g (16 * p + v) < 16 then 1 else 0) i)) (nI i)) (fun _ _ => True) 16 0 () (by omega) trivial
    (fun n _ _ => pk_le 16 16 (fun _ => H) (fun z => absurd z (by omega)))
    (fun n i _ hi _ hw => pk_le 16 i (fun z => absurd z (by omega)) (fun _ => ?_))
  have t : wX_present_15 post (nI p) c a1 a2 a3 a4 a5 a6 a7 a8 n (nI (sg_sum (fun v => if g (16 * p + v) < 16 then 1 else 0) (i + 1))) (nI (i + 1)) := hw () trivial
  rw [sg_sum_s] at t
  rw [sg_pg]
  refine sg_frameOf h (by omega) (fun hg => br_f (nI_pos (by omega)) (nm_r (nI_1 _) (nm_r (nI_1 i) ?_))) (fun hg r hr => br_t hr (nm_r (nI_1 i) ?_))
  · rw [if_pos hg] at t
    exact t
  · rw [if_neg (by omega)] at t
    exact t
theorem sg_shared {post : Int32 → Prop} (h : sg_I a2 a3 a5 g) {v : Nat} (hv : v < 16) (H : post (nI (if g v < 16 ∧ g v = g (16 + v) then 1 else 0))) : wpX_shared post (c, a1, a2, a3, a4, a5, a6, a7, a8) (nI v) := by
  unfold wpX_shared
  dsimp only
  refine br_f (nI_pos (by omega)) (pk_le v 15 (fun _ => ?_) (fun z => absurd z (by omega)))
  have e16 : (16 : Int32) + nI v = nI (16 + v) := nI_add 16 v
  rw [e16]
  refine sg_frameOf h (by omega) (fun hg => sg_frameOf h (by omega) (fun hg' => br_f (nI_pos (by omega)) (pk_eq (g v) (g (16 + v)) (fun z => ?_) (fun z => ?_))) (fun hg' r hr => br_f (nI_pos (by omega)) (br_f (fun z => ?_) ?_))) (fun hg r hr => sg_frameOf h (by omega) (fun hg' => br_t hr ?_) (fun hg' r' hr' => br_t hr ?_))
  · rw [if_pos ⟨hg, z⟩] at H
    exact H
  · rw [if_neg (fun q => z q.2)] at H
    exact H
  · rw [← z] at hr
    exact absurd hr (nI_pos (by omega))
  · rw [if_neg (by omega)] at H
    exact H
  · rw [if_neg (by omega)] at H
    exact H
  · rw [if_neg (by omega)] at H
    exact H
theorem sg_state {post : Int32 → Prop} (h : sg_I a2 a3 a5 g) {p v : Nat} (hp : p < 2) (hv : v < 16) (H0 : g (16 * p + v) = 16 → post 0) (H1 : g (16 * p + v) < 16 → ∀ r, ¬ r = 0 → post r) : wpX_state post (c, a1, a2, a3, a4, a5, a6, a7, a8) (nI p) (nI v) := by
  unfold wpX_state
  dsimp only
  refine sg_bad hp (by omega) (fun _ => br_t rfl ?_) (fun z => absurd z (by omega))
  rw [sg_pg]
  refine sg_frameOf h (by omega) (fun hg => br_t (nI_pos' (by omega)) ⟨vp_in_nI (by omega) (by omega), br_c (fun _ => H1 hg _ (by decide)) (fun _ => H1 hg _ (by decide))⟩) (fun hg r hr => br_f (fun z => sg_le0.mp z hr) (H0 hg))
theorem sg_heldBy {post : Int32 → Prop} {x : Int32} (H0 : post (-1)) (H1 : ∀ k, k < 4 → post (nI k)) : wpX_heldBy post (c, a1, a2, a3, a4, a5, a6, a7, a8) x := by
  unfold wpX_heldBy
  dsimp only
  refine pk_loop (σ := Int32) (fun n i s => wX_heldBy_4 post x c a1 a2 a3 a4 a5 a6 a7 a8 n s (nI i)) (fun _ s => s = -1 ∨ ∃ k, k < 4 ∧ s = nI k) 4 0 (-1) (by omega) (Or.inl rfl)
    (fun n s hs => pk_le 4 4 (fun _ => ?_) (fun z => absurd z (by omega)))
    (fun n i s hi hs hw => pk_le 4 i (fun z => absurd z (by omega)) (fun _ => ⟨pk_in i 4 (by omega), br_c (fun _ => nm_r (nI_1 i) (hw _ (Or.inr ⟨i, hi, rfl⟩))) (fun _ => nm_r (nI_1 i) (hw _ hs))⟩))
  rcases hs with hs | ⟨k, hk, hs⟩
  · rw [hs]
    exact H0
  · rw [hs]
    exact H1 k hk
theorem sg_usedIn {post : Int32 → Prop} (h2 : ∀ f, f < 16 → a2 f = nI (u f)) (hu : ∀ f, f < 16 → u f ≤ 32) {k : Nat} (hk : k < 4) (H : post (nI (sg_sum (fun i => if 0 < u (4 * k + i) then 1 else 0) 4))) : wpX_usedIn post (c, a1, a2, a3, a4, a5, a6, a7, a8) (nI k) := by
  unfold wpX_usedIn
  dsimp only
  refine pk_loop (σ := Unit) (fun n i _ => wX_usedIn_4 post (nI k) c a1 a2 a3 a4 a5 a6 a7 a8 n (nI (sg_sum (fun i => if 0 < u (4 * k + i) then 1 else 0) i)) (nI i)) (fun _ _ => True) 4 0 () (by omega) trivial
    (fun n _ _ => pk_le 4 4 (fun _ => H) (fun z => absurd z (by omega)))
    (fun n i _ hi _ hw => pk_le 4 i (fun z => absurd z (by omega)) (fun _ => ?_))
  have t : wX_usedIn_4 post (nI k) c a1 a2 a3 a4 a5 a6 a7 a8 n (nI (sg_sum (fun i => if 0 < u (4 * k + i) then 1 else 0) (i + 1))) (nI (i + 1)) := hw () trivial
  rw [sg_sum_s] at t
  have hui := hu (4 * k + i) (by omega)
  rw [sg_ix, nI_clamp (show 4 * k + i < 2 ^ 31 by omega), h2 (4 * k + i) (by omega)]
  refine ⟨vp_in_nI (by omega) (by omega), pk_le (u (4 * k + i)) 0 (fun z => nm_r (nI_1 i) ?_) (fun z => nm_r (nI_1 _) (nm_r (nI_1 i) ?_))⟩
  · rw [if_neg (by omega)] at t
    exact t
  · rw [if_pos z] at t
    exact t
theorem sg_emptyGroup {post : Int32 → Prop} (h2 : ∀ f, f < 16 → a2 f = nI (u f)) (hu : ∀ f, f < 16 → u f ≤ 32) (H0 : post (-1)) (H1 : ∀ k, k < 4 → (∀ i, i < 4 → u (4 * k + i) = 0) → post (nI k)) : wpX_emptyGroup post (c, a1, a2, a3, a4, a5, a6, a7, a8) := by
  unfold wpX_emptyGroup
  dsimp only
  refine pk_loop (σ := Unit) (fun n i _ => wX_emptyGroup_2 post c a1 a2 a3 a4 a5 a6 a7 a8 n (nI i)) (fun _ _ => True) 4 0 () (by omega) trivial
    (fun n _ _ => pk_le 4 4 (fun _ => H0) (fun z => absurd z (by omega)))
    (fun n i _ hi _ hw => pk_le 4 i (fun z => absurd z (by omega)) (fun _ => sg_usedIn h2 hu hi ?_))
  have hb : sg_sum (fun j => if 0 < u (4 * i + j) then 1 else 0) 4 ≤ 4 := sg_sum_le (fun j _ => sg_ind _)
  refine pk_eq (sg_sum (fun j => if 0 < u (4 * i + j) then 1 else 0) 4) 0 (fun z => ⟨pk_in i 4 (by omega), br_c (fun _ => nm_r (nI_1 i) (hw () trivial)) (fun _ => H1 i hi (fun j hj => ?_))⟩) (fun z => nm_r (nI_1 i) (hw () trivial))
  apply Classical.byContradiction
  intro hj'
  have t := sg_sum_pt (f := fun j => if 0 < u (4 * i + j) then 1 else 0) (f' := sg_up (fun j => if 0 < u (4 * i + j) then 1 else 0) j 0) hj (fun q _ hq => sg_upn hq)
  rw [sg_ups, z] at t
  rw [if_pos (by omega)] at t
  omega
theorem sg_loose {post : Int32 → Prop} (h2 : ∀ f, f < 16 → a2 f = nI (u f)) (hu : ∀ f, f < 16 → u f ≤ 32) (H1 : ∀ f, f < 16 → u f = 0 → post (nI f)) (H0 : (∀ f, f < 16 → u f = 0 → ¬ a6 (f / 4) < 0) → post (-1)) : wpX_looseFrame post (c, a1, a2, a3, a4, a5, a6, a7, a8) := by
  unfold wpX_looseFrame
  dsimp only
  refine pk_loop (σ := Unit) (fun n i _ => wX_looseFrame_2 post c a1 a2 a3 a4 a5 a6 a7 a8 n (nI i)) (fun i _ => ∀ f, f < i → u f = 0 → ¬ a6 (f / 4) < 0) 16 0 () (by omega) (fun f hf => absurd hf (by omega))
    (fun n _ hI => pk_le 16 16 (fun _ => H0 hI) (fun z => absurd z (by omega)))
    (fun n i _ hi hI hw => pk_le 16 i (fun z => absurd z (by omega)) (fun _ => ⟨pk_in i 16 (by omega), ?_⟩))
  have hui := hu i hi
  rw [sg_s2 (by omega), nI_clamp (show i < 2 ^ 31 by omega), nI_clamp (show i / 4 < 2 ^ 31 by omega), h2 i hi]
  refine pk_eq (u i) 0 (fun z => ⟨vp_in_nI (by omega) (by omega), br_c (fun q => nm_r (nI_1 i) (hw () (lt_s hI (fun _ => sg_le0.mp q)))) (fun q => H1 i hi z)⟩) (fun z => nm_r (nI_1 i) (hw () (lt_s hI (fun q => absurd q z))))
theorem sg_counted {post : Int32 → Prop} (h : sg_I a2 a3 a5 g) (H : post 1) : wpL_counted post (c, a1, a2, a3, a4, a5, a6, a7, a8) := by
  unfold wpL_counted
  dsimp only
  refine pk_loop (σ := Unit) (fun n i _ => wL_counted_4 post c a1 a2 a3 a4 a5 a6 a7 a8 n (nI (sg_sum (fun v => if g v < 16 ∧ g v = g (16 + v) then 1 else 0) i)) (nI i)) (fun _ _ => True) 16 0 () (by omega) trivial
    (fun n _ _ => pk_le 16 16 (fun _ => ?_) (fun z => absurd z (by omega)))
    (fun n i _ hi _ hw => pk_le 16 i (fun z => absurd z (by omega)) (fun _ => ?_))
  · refine sg_inUse h ?_
    have hb : sg_sum (fun f => if 0 < sg_cnt g f then 1 else 0) 16 ≤ 16 := sg_sum_le (fun j _ => sg_ind _)
    refine pk_lt 16 (sg_sum (fun f => if 0 < sg_cnt g f then 1 else 0) 16) (fun z => absurd z (by omega)) (fun _ => ?_)
    refine sg_present (p := 0) h (by omega) (sg_present (p := 1) h (by omega) (br_t ?_ H))
    have e0 : sg_sum (fun v => if g (16 * 0 + v) < 16 then 1 else 0) 16 = sg_sum (fun v => if g v < 16 then 1 else 0) 16 := sg_sum_congr (fun v _ => by
      rw [show 16 * 0 + v = v by omega])
    have e1 : sg_sum (fun v => if g (16 * 1 + v) < 16 then 1 else 0) 16 = sg_sum (fun v => if g (16 + v) < 16 then 1 else 0) 16 := rfl
    have t := sg_law (sg_I_sh h)
    rw [e0, e1, nI_add, pk_sub (by omega)]
    exact congrArg nI (by omega)
  · have t : wL_counted_4 post c a1 a2 a3 a4 a5 a6 a7 a8 n (nI (sg_sum (fun v => if g v < 16 ∧ g v = g (16 + v) then 1 else 0) (i + 1))) (nI (i + 1)) := hw () trivial
    rw [sg_sum_s] at t
    refine sg_shared h hi ?_
    by_cases z : g i < 16 ∧ g i = g (16 + i)
    · rw [if_pos z] at t ⊢
      exact br_f (by decide) (nm_r (nI_1 _) (nm_r (nI_1 i) t))
    · rw [if_neg z] at t ⊢
      exact br_t rfl (nm_r (nI_1 i) t)
end
end
section
/-! ===== the methods that change the state ===== -/
section
variable {c : Int32} {a1 a2 a3 a4 a5 a6 a7 a8 : Nat → Int32} {g u : Nat → Nat}
/-- how many frames of group k are in use -/
def sg_U (u : Nat → Nat) (k : Nat) : Nat := sg_sum (fun i => if 0 < u (4 * k + i) then 1 else 0) 4
theorem sg_U_le (u : Nat → Nat) (k : Nat) : sg_U u k ≤ 4 := sg_sum_le (fun _ _ => sg_ind _)
theorem sg_U_lt {u : Nat → Nat} {f : Nat} (h : u f = 0) : sg_U u (f / 4) < 4 := by
  have t := sg_U_le u (f / 4)
  rcases Nat.lt_or_ge (sg_U u (f / 4)) 4 with z | z
  · exact z
  · have t2 := sg_sum_full (f := fun i => if 0 < u (4 * (f / 4) + i) then 1 else 0) (n := 4) (fun _ _ => sg_ind _) (show sg_U u (f / 4) = 4 by omega) (f % 4) (by omega)
    rw [show 4 * (f / 4) + f % 4 = f by omega, if_neg (by omega)] at t2
    omega
theorem sg_U_ex {u : Nat → Nat} {k : Nat} (h : sg_U u k < 4) : ∃ i, i < 4 ∧ u (4 * k + i) = 0 := by
  obtain ⟨i, hi, hz⟩ := sg_sum_lt (f := fun i => if 0 < u (4 * k + i) then 1 else 0) (n := 4) (fun _ _ => sg_ind _) (show sg_U u k ≠ 4 by omega)
  refine ⟨i, hi, ?_⟩
  rcases Nat.eq_zero_or_pos (u (4 * k + i)) with z | z
  · exact z
  · rw [if_pos z] at hz
    omega
theorem sg_preempt {post : St1 → Prop} (h2 : ∀ f, f < 16 → a2 f = nI (u f)) (hu : ∀ f, f < 16 → u f ≤ 32) (hc : ∃ k, k < 4 ∧ ¬ a6 k < 0 ∧ sg_U u k < 4) (H : ∀ o, o < 4 → sg_U u o < 4 → post (c, a1, a2, a3, a4, a5, upd a6 o (-1), a7, a8)) : wpX_preempt post (c, a1, a2, a3, a4, a5, a6, a7, a8) := by
  unfold wpX_preempt
  dsimp only
  refine pk_loop (σ := Int32) (fun n i s => wX_preempt_4 post c a1 a2 a3 a4 a5 a6 a7 a8 n s (nI i)) (fun i s => (s = -1 ∧ ∀ k, k < i → ¬ (¬ a6 k < 0 ∧ sg_U u k < 4)) ∨ ∃ o, o < 4 ∧ s = nI o ∧ sg_U u o < 4) 4 0 (-1) (by omega) (Or.inl ⟨rfl, fun k hk => absurd hk (by omega)⟩)
    (fun n s hs => pk_le 4 4 (fun _ => ?_) (fun z => absurd z (by omega)))
    (fun n i s hi hs hw => pk_le 4 i (fun z => absurd z (by omega)) (fun _ => sg_usedIn h2 hu hi ⟨pk_in i 4 (by omega), ?_⟩))
  · rcases hs with ⟨_, hs⟩ | ⟨o, ho, hs, hU⟩
    · obtain ⟨k, hk, hk2⟩ := hc
      exact absurd hk2 (hs k hk)
    · rw [hs, nI_clamp (show o < 2 ^ 31 by omega)]
      exact br_f (nI_pos (by omega)) ⟨vp_in_nI ho (by omega), nm_e (H o ho hU)⟩
  · rw [nI_clamp (show i < 2 ^ 31 by omega)]
    have hb := sg_U_le u i
    refine br_c (fun hz => nm_r (nI_1 i) (hw _ ?_)) (fun hz => pk_le 4 (sg_U u i) (fun hq => nm_r (nI_1 i) (hw _ ?_)) (fun hq => br_c (fun hn => nm_r (nI_1 i) (hw _ (Or.inr ⟨i, hi, rfl, hq⟩))) (fun hn => ⟨vp_in_nI hi (by omega), ?_⟩)))
    · rcases hs with ⟨e, hs⟩ | hs
      · exact Or.inl ⟨e, lt_s hs (fun z => z.1 hz)⟩
      · exact Or.inr hs
    · rcases hs with ⟨e, hs⟩ | hs
      · exact Or.inl ⟨e, lt_s hs (fun z => by omega)⟩
      · exact Or.inr hs
    · rcases hs with ⟨e, hs⟩ | ⟨o, ho, hs, hU⟩
      · exact absurd (by rw [e]; decide) hn
      · refine ⟨by rw [hs]; exact vp_in_nI ho (by omega), br_c (fun _ => nm_r (nI_1 i) (hw _ (Or.inr ⟨o, ho, hs, hU⟩))) (fun _ => nm_r (nI_1 i) (hw _ (Or.inr ⟨i, hi, rfl, hq⟩)))⟩
theorem sg_take77 {post : Int32 → St1 → Prop} (h2 : ∀ f, f < 16 → a2 f = nI (u f)) (hu : ∀ f, f < 16 → u f ≤ 32) (hf : ∃ f, f < 16 ∧ u f = 0) (H : ∀ f b6, f < 16 → u f = 0 → post (nI f) (c, a1, a2, a3, a4, a5, b6, a7, a8)) : wX_takeFrame_77 post c a1 a2 a3 a4 a5 a6 a7 a8 := by
  unfold wX_takeFrame_77
  refine sg_loose h2 hu (fun f hf hz => br_t (nI_pos' (by omega)) (H f a6 hf hz)) (fun hn => br_f (by decide) ?_)
  obtain ⟨f0, hf0, hz0⟩ := hf
  refine sg_preempt h2 hu ⟨f0 / 4, by omega, hn f0 hf0 hz0, sg_U_lt hz0⟩ (fun o ho hU => ?_)
  refine sg_loose h2 hu (fun f hf hz => H f _ hf hz) (fun hn' => ?_)
  obtain ⟨i, hi, hz⟩ := sg_U_ex hU
  have t := hn' (4 * o + i) (by omega) hz
  rw [show (4 * o + i) / 4 = o by omega, pk_us] at t
  exact absurd (by decide) t
theorem sg_take30 {post : Int32 → St1 → Prop} (h2 : ∀ f, f < 16 → a2 f = nI (u f)) (hu : ∀ f, f < 16 → u f ≤ 32) (hf : ∃ f, f < 16 ∧ u f = 0) {p : Nat} (hp : p < 32) {x : Int32} (hx : x = -1 ∨ ∃ k, k < 4 ∧ x = nI k) (H : ∀ f c' b6 b7, f < 16 → u f = 0 → post (nI f) (c', a1, a2, a3, a4, a5, b6, b7, a8)) : wX_takeFrame_30 post (nI p) x c a1 a2 a3 a4 a5 a6 a7 a8 := by
  have h77 : wX_takeFrame_77 post c a1 a2 a3 a4 a5 a6 a7 a8 := sg_take77 h2 hu hf (fun f b6 hf hz => H f c b6 a7 hf hz)
  unfold wX_takeFrame_30
  rcases hx with hx | ⟨k, hk, hx⟩
  · exact br_t (by rw [hx]; decide) h77
  · rw [hx, sg_a3 (by omega), sg_ix, nI_clamp (show 4 * k + p % 4 < 2 ^ 31 by omega), nI_clamp (show k < 2 ^ 31 by omega), h2 (4 * k + p % 4) (by omega)]
    have hb := hu (4 * k + p % 4) (by omega)
    exact br_f (nI_pos (by omega)) ⟨vp_in_nI (by omega) (by omega), pk_eq (u (4 * k + p % 4)) 0 (fun z => nm_e ⟨vp_in_nI hk (by omega), nm_e (H _ _ _ _ (by omega) z)⟩) (fun _ => h77)⟩
theorem sg_take {post : Int32 → St1 → Prop} (h2 : ∀ f, f < 16 → a2 f = nI (u f)) (hu : ∀ f, f < 16 → u f ≤ 32) (hf : ∃ f, f < 16 ∧ u f = 0) {p : Nat} (hp : p < 32) (H : ∀ f c' b6 b7, f < 16 → u f = 0 → post (nI f) (c', a1, a2, a3, a4, a5, b6, b7, a8)) : wpX_takeFrame post (c, a1, a2, a3, a4, a5, a6, a7, a8) (nI p) := by
  unfold wpX_takeFrame
  dsimp only
  refine nm_e (sg_heldBy (br_f (by decide) ?_) (fun k hk => br_t (nI_pos' (by omega)) (sg_take30 h2 hu hf hp (Or.inr ⟨k, hk, rfl⟩) H)))
  refine sg_emptyGroup h2 hu (br_t (by decide) (sg_take30 h2 hu hf hp (Or.inl rfl) H)) (fun k hk _ => br_f (nI_pos (by omega)) ⟨vp_in_nI hk (by omega), nm_e (sg_take30 h2 hu hf hp (Or.inr ⟨k, hk, rfl⟩) H)⟩)
theorem sg_dropOthers {post : St1 → Prop} {x y : Int32} (H : ∀ b6, post (c, a1, a2, a3, a4, a5, b6, a7, a8)) : wpX_dropOthers post (c, a1, a2, a3, a4, a5, a6, a7, a8) x y := by
  unfold wpX_dropOthers
  dsimp only
  exact pk_loop (σ := Nat → Int32) (fun n i s => wX_dropOthers_2 post x y c n (nI i) a1 a2 a3 a4 a5 s a7 a8) (fun _ _ => True) 4 0 a6 (by omega) trivial
    (fun n s _ => pk_le 4 4 (fun _ => H s) (fun z => absurd z (by omega)))
    (fun n i s hi _ hw => pk_le 4 i (fun z => absurd z (by omega)) (fun _ => br_c (fun _ => nm_r (nI_1 i) (hw _ trivial)) (fun _ => ⟨pk_in i 4 hi, br_c (fun _ => ⟨pk_in i 4 hi, nm_e (nm_r (nI_1 i) (hw _ trivial))⟩) (fun _ => nm_r (nI_1 i) (hw _ trivial))⟩)))
theorem sg_copyFrame {post : St1 → Prop} {k l : Nat} (hk : k < 16) (hl : l < 16) (H : ∀ b1, post (c, b1, a2, a3, a4, a5, a6, a7, a8)) : wpX_copyFrame post (c, a1, a2, a3, a4, a5, a6, a7, a8) (nI k) (nI l) := by
  unfold wpX_copyFrame
  dsimp only
  refine pk_loop (σ := Nat → Int32) (fun n i s => wX_copyFrame_2 post (nI k) (nI l) c n (nI i) s a2 a3 a4 a5 a6 a7 a8) (fun _ _ => True) 4 0 a1 (by omega) trivial
    (fun n s _ => pk_le 4 4 (fun _ => H s) (fun z => absurd z (by omega)))
    (fun n i s hi _ hw => pk_le 4 i (fun z => absurd z (by omega)) (fun _ => ?_))
  rw [sg_ix, sg_ix]
  exact ⟨vp_in_nI (by omega) (by omega), vp_in_nI (by omega) (by omega), nm_e (nm_r (nI_1 i) (hw _ trivial))⟩
/-- the picture while four pages of range r move to group e -/
def sg_R (a2 a3 a5 : Nat → Int32) (g : Nat → Nat) (r e i : Nat) (h : Nat → Nat) : Prop :=
  sg_I a2 a3 a5 h ∧ (∀ j, j < i → h (4 * r + j) = 4 * e + j ∧ sg_cnt h (4 * e + j) = 1) ∧ (∀ j, i ≤ j → j < 4 → h (4 * r + j) < 16 ∧ sg_cnt h (h (4 * r + j)) = 1 ∧ sg_cnt h (4 * e + j) = 0) ∧ (∀ q, q < 32 → g q < 16 → h q < 16)
theorem sg_R_s {r e i : Nat} {h : Nat → Nat} (hR : sg_R a2 a3 a5 g r e i h) (hr : r < 8) (he : e < 4) (hi : i < 4) (hl : a5 r < 0) :
    sg_R (upd (upd a2 (h (4 * r + i)) 0) (4 * e + i) 1) (upd a3 (4 * r + i) (nI (4 * e + i))) a5 g r e (i + 1) (sg_up h (4 * r + i) (4 * e + i)) := by
  obtain ⟨hI, h1, h3, h4⟩ := hR
  obtain ⟨k1, k2, k3⟩ := h3 i (Nat.le_refl i) hi
  have hp : 4 * r + i < 32 := by omega
  have N : ∀ f, f ≠ h (4 * r + i) → f ≠ 4 * e + i → sg_cnt (sg_up h (4 * r + i) (4 * e + i)) f = sg_cnt h f := by
    intro f hf1 hf2
    have t := sg_cnt_up (g := h) (4 * e + i) f hp
    rw [if_neg (fun z => hf1 z.symm), if_neg (fun z => hf2 z.symm)] at t
    omega
  have hne : h (4 * r + i) ≠ 4 * e + i := sg_cnt_0 k3 hp
  refine ⟨sg_go hI hp (by rw [show (4 * r + i) / 4 = r by omega]; exact hl) rfl k1 (by omega) k3 (by rw [k2]) rfl, fun j hj => ?_, fun j hj hj4 => ?_, fun q hq hg => ?_⟩
  · by_cases ej : j = i
    · rw [ej, sg_ups]
      refine ⟨rfl, ?_⟩
      have t := sg_cnt_up (g := h) (4 * e + i) (4 * e + i) hp
      rw [if_neg hne, if_pos rfl] at t
      omega
    · obtain ⟨m1, m2⟩ := h1 j (by omega)
      rw [sg_upn (by omega), m1]
      refine ⟨rfl, ?_⟩
      rw [N _ (fun z => ?_) (by omega)]
      · exact m2
      · have t := sg_cnt_1 m2 (show 4 * r + j < 32 by omega) hp m1 z.symm
        omega
  · obtain ⟨m1, m2, m3⟩ := h3 j (by omega) hj4
    rw [sg_upn (by omega)]
    refine ⟨m1, ?_, ?_⟩
    · rw [N _ (fun z => ?_) (sg_cnt_0 k3 (by omega))]
      · exact m2
      · have t := sg_cnt_1 k2 (show 4 * r + j < 32 by omega) hp z rfl
        omega
    · rw [N _ (fun z => ?_) (by omega)]
      · exact m3
      · exact sg_cnt_0 m3 hp z.symm
  · by_cases eq : q = 4 * r + i
    · rw [eq, sg_ups]
      omega
    · rw [sg_upn eq]
      exact h4 q hq hg
theorem sg_relocate {post : St1 → Prop} {r e : Nat} (hR : sg_R a2 a3 a5 g r e 0 g) (hr : r < 8) (he : e < 4) (hl : a5 r < 0) (H : ∀ b1 b2 b3 h, sg_R b2 b3 a5 g r e 4 h → post (c, b1, b2, b3, a4, a5, a6, a7, a8)) : wpX_relocate post (c, a1, a2, a3, a4, a5, a6, a7, a8) (nI (4 * r)) (nI e) := by
  unfold wpX_relocate
  dsimp only
  refine pk_loop (σ := (Nat → Int32) × (Nat → Int32) × (Nat → Int32)) (fun n i s => wX_relocate_2 post (nI (4 * r)) (nI e) n (nI i) c s.1 s.2.1 s.2.2 a4 a5 a6 a7 a8) (fun i s => ∃ h, sg_R s.2.1 s.2.2 a5 g r e i h) 4 0 (a1, a2, a3) (by omega) ⟨g, hR⟩
    (fun n s hs => pk_le 4 4 (fun _ => ?_) (fun z => absurd z (by omega)))
    (fun n i s hi hs hw => pk_le 4 i (fun z => absurd z (by omega)) (fun _ => ?_))
  · obtain ⟨h, hs⟩ := hs
    exact H _ _ _ h hs
  · obtain ⟨b1, b2, b3⟩ := s
    obtain ⟨h, hs⟩ := hs
    dsimp only at hs ⊢
    obtain ⟨k1, k2, k3⟩ := hs.2.2.1 i (Nat.le_refl i) hi
    have hx : b3 (4 * r + i) = nI (h (4 * r + i)) := by
      have t := sg_I_small hs.1 (show 4 * r + i < 32 by omega) (by rw [show (4 * r + i) / 4 = r by omega]; exact hl)
      rcases t with ⟨_, t⟩ | ⟨t, _⟩
      · exact t
      · omega
    rw [nI_add, sg_ix, nI_clamp (show 4 * r + i < 2 ^ 31 by omega), hx]
    refine ⟨vp_in_nI (by omega) (by omega), nm_e (nm_e (sg_copyFrame k1 (by omega) (fun b1' => ⟨vp_in_nI k1 (by omega), nm_e ⟨vp_in_nI (by omega) (by omega), nm_e ⟨vp_in_nI (by omega) (by omega), nm_e (nm_r (nI_1 i) ?_)⟩⟩⟩)))⟩
    rw [nI_clamp (show h (4 * r + i) < 2 ^ 31 by omega), nI_clamp (show 4 * e + i < 2 ^ 31 by omega)]
    exact hw (b1', _, _) ⟨_, sg_R_s hs hr he hi hl⟩
theorem sg_p134 {post : St1 → Prop} {r e : Nat} (hr : r < 8) (he : e < 4) (H : ∀ b3 b6, (∀ p, p / 4 ≠ r → b3 p = a3 p) → post (c, a1, a2, b3, a4, upd a5 r (nI e), b6, a7, a8)) : wX_promote_134 post (nI r) (nI (4 * r)) (nI e) c a1 a2 a3 a4 a5 a6 a7 a8 := by
  unfold wX_promote_134
  rw [nI_clamp (show r < 2 ^ 31 by omega), nI_clamp (show e < 2 ^ 31 by omega)]
  refine ⟨vp_in_nI hr (by omega), nm_e ⟨vp_in_nI he (by omega), nm_e (sg_dropOthers (fun b6 => ?_))⟩⟩
  refine pk_loop (σ := Nat → Int32) (fun n i s => wX_promote_157 post (nI (4 * r)) c n (nI i) a1 a2 s a4 (upd a5 r (nI e)) b6 a7 a8) (fun _ s => ∀ p, p / 4 ≠ r → s p = a3 p) 4 0 a3 (by omega) (fun _ _ => rfl)
    (fun n s hs => pk_le 4 4 (fun _ => H s b6 hs) (fun z => absurd z (by omega)))
    (fun n i s hi hs hw => pk_le 4 i (fun z => absurd z (by omega)) (fun _ => ?_))
  rw [nI_add, nI_clamp (show 4 * r + i < 2 ^ 31 by omega)]
  refine ⟨vp_in_nI (by omega) (by omega), nm_e (nm_r (nI_1 i) (hw _ (fun p hp => ?_)))⟩
  rw [pk_un (by omega)]
  exact hs p hp
theorem sg_p84 {post : St1 → Prop} {J : Int32 → Int32 → Int32 → Prop} {x1 x2 x3 x4 : Int32} {i k : Nat} (hk : k < 16) (hi : i < 4) (h4 : x4 = 0 ∨ (x4 = 1 ∧ ∃ e, e < 4 ∧ x3 = nI e)) (H0 : ∀ y, J y 0 (nI (i + 1))) (H1 : ∀ e, x4 = 1 → e < 4 → x3 = nI e → k = 4 * e + i → J (nI e) 1 (nI (i + 1))) : wX_promote_84 post J x1 x2 x3 x4 (nI i) (nI k) c a1 a2 a3 a4 a5 a6 a7 a8 := by
  unfold wX_promote_84
  rcases h4 with h4 | ⟨h4, e, he, h3⟩
  · exact br_t h4 (nm_r (nI_1 i) (H0 _))
  · refine br_f (by rw [h4]; decide) ?_
    have t := fun z => H1 e h4 he h3 z
    rw [h3, sg_ix]
    exact pk_eq k (4 * e + i) (fun z => nm_r (nI_1 i) (t z)) (fun _ => nm_r (nI_1 i) (H0 _))
theorem sg_promote {post : St1 → Prop} (h : sg_I a2 a3 a5 g) {r : Nat} (hr : r < 8) (H : ∀ b1 b2 b3 b5 b6 g', sg_I b2 b3 b5 g' → (∀ q, q < 32 → g q < 16 → g' q < 16) → post (c, b1, b2, b3, a4, b5, b6, a7, a8)) : wpX_promote post (c, a1, a2, a3, a4, a5, a6, a7, a8) (nI r) := by
  have hq : post (c, a1, a2, a3, a4, a5, a6, a7, a8) := H _ _ _ _ _ g h (fun _ _ z => z)
  unfold wpX_promote
  dsimp only
  rw [sg_m4, nI_clamp (show r < 2 ^ 31 by omega)]
  refine ⟨vp_in_nI hr (by omega), br_c (fun hl => nm_e ?_) (fun _ => hq)⟩
  refine pk_loop (σ := Int32 × Int32) (fun n i s => wX_promote_22 post (nI r) (nI (4 * r)) c a1 a2 a3 a4 a5 a6 a7 a8 n s.1 s.2 (nI i)) (fun i s => (∀ j, j < i → g (4 * r + j) < 16 ∧ sg_cnt g (g (4 * r + j)) = 1) ∧ ((i = 0 ∧ s.2 = 1) ∨ s.2 = 0 ∨ (s.2 = 1 ∧ ∃ e, e < 4 ∧ s.1 = nI e ∧ ∀ j, j < i → g (4 * r + j) = 4 * e + j))) 4 0 (-1, 1) (by omega) ⟨fun j hj => absurd hj (by omega), Or.inl ⟨rfl, rfl⟩⟩
    (fun n s hs => pk_le 4 4 (fun _ => ?_) (fun z => absurd z (by omega)))
    (fun n i s hi hs hw => pk_le 4 i (fun z => absurd z (by omega)) (fun _ => ?_))
  · obtain ⟨hs1, hs | hs | ⟨hs, e, he, hs3, hs4⟩⟩ := hs
    · exact absurd hs.1 (by omega)
    · refine br_t hs (sg_emptyGroup (u := sg_cnt g) h.2.2 (fun f _ => sg_cnt_le g f) (br_f (by decide) hq) (fun e he hz => br_t (nI_pos' (by omega)) ?_))
      refine sg_relocate (g := g) (e := e) ⟨h, fun j hj => absurd hj (by omega), fun j _ hj => ⟨(hs1 j hj).1, (hs1 j hj).2, hz j hj⟩, fun _ _ z => z⟩ hr he hl (fun b1 b2 b3 k hk => ?_)
      exact sg_p134 hr he (fun b3' b6 hb => H _ _ _ _ _ k (sg_prom hk.1 hr he (fun j hj => (hk.2.1 j hj).1) (fun j hj => (hk.2.1 j hj).2) hb) hk.2.2.2)
    · refine br_f (by rw [hs]; decide) ?_
      rw [hs3]
      exact sg_p134 hr he (fun b3' b6 hb => H _ _ _ _ _ g (sg_prom h hr he hs4 (fun j hj => by rw [← hs4 j hj]; exact (hs1 j hj).2) hb) (fun _ _ z => z))
  · obtain ⟨y3, y4⟩ := s
    dsimp only at hs ⊢
    obtain ⟨hs1, hs2⟩ := hs
    have hm := sg_I_small h (show 4 * r + i < 32 by omega) (by rw [show (4 * r + i) / 4 = r by omega]; exact hl)
    rw [nI_add, nI_clamp (show 4 * r + i < 2 ^ 31 by omega)]
    refine ⟨vp_in_nI (by omega) (by omega), nm_e (br_c (fun _ => hq) (fun hn => ?_))⟩
    obtain ⟨hk, hx⟩ := sg_mt_pos hm hn
    have hcb := sg_cnt_le g (g (4 * r + i))
    rw [hx, nI_clamp (show g (4 * r + i) < 2 ^ 31 by omega), h.2.2 _ hk, sg_s2 (by omega)]
    refine ⟨vp_in_nI hk (by omega), pk_eq (sg_cnt g (g (4 * r + i))) 1 (fun hc => ⟨vp_in_nI (by omega) (by omega), vp_in_nI (by omega) (by omega), br_c (fun _ => ?_) (fun _ => hq)⟩) (fun _ => hq)⟩
    have hs1' : ∀ j, j < i + 1 → g (4 * r + j) < 16 ∧ sg_cnt g (g (4 * r + j)) = 1 := lt_s hs1 ⟨hk, hc⟩
    have H0 : ∀ y, wX_promote_22 post (nI r) (nI (4 * r)) c a1 a2 a3 a4 a5 a6 a7 a8 n y 0 (nI (i + 1)) := fun y => hw (y, 0) ⟨hs1', Or.inr (Or.inl rfl)⟩
    have H1 : ∀ e, e < 4 → (∀ j, j < i → g (4 * r + j) = 4 * e + j) → g (4 * r + i) = 4 * e + i → wX_promote_22 post (nI r) (nI (4 * r)) c a1 a2 a3 a4 a5 a6 a7 a8 n (nI e) 1 (nI (i + 1)) := fun e he hj hji => hw (nI e, 1) ⟨hs1', Or.inr (Or.inr ⟨rfl, e, he, rfl, lt_s hj hji⟩)⟩
    refine pk_eq i 0 (fun hz => nm_e ?_) (fun hz => ?_)
    · refine sg_p84 hk hi ?_ H0 (fun e _ he _ hke => H1 e he (fun j hj => absurd hj (by omega)) hke)
      rcases hs2 with hs2 | hs2 | hs2
      · exact Or.inr ⟨hs2.2, _, by omega, rfl⟩
      · exact Or.inl hs2
      · exact Or.inr ⟨hs2.1, _, by omega, rfl⟩
    · rcases hs2 with hs2 | hs2 | ⟨hs2, e', he', hs3, hs4⟩
      · exact absurd hs2.1 hz
      · exact sg_p84 hk hi (Or.inl hs2) H0 (fun e h1 _ _ _ => absurd (by rw [hs2] at h1; exact h1) (show ¬ (0 : Int32) = 1 by decide))
      · refine sg_p84 hk hi (Or.inr ⟨hs2, e', he', hs3⟩) H0 (fun e _ he h3 hke => H1 e he ?_ hke)
        rw [hs3] at h3
        have t := (nI_eq (by omega) (by omega)).mp h3
        rw [← t]
        exact hs4
theorem sg_demote {post : St1 → Prop} (h : sg_I a2 a3 a5 g) {r : Nat} (hr : r < 8) (H : ∀ b3 b5, sg_I a2 b3 b5 g → b5 r < 0 → (∀ s, a5 s < 0 → b5 s < 0) → post (c, a1, a2, b3, a4, b5, a6, a7, a8)) : wpX_demote post (c, a1, a2, a3, a4, a5, a6, a7, a8) (nI r) := by
  unfold wpX_demote
  dsimp only
  rw [nI_clamp (show r < 2 ^ 31 by omega)]
  refine ⟨vp_in_nI hr (by omega), nm_e ?_⟩
  have t := h.1 (4 * r) (by omega)
  rw [show 4 * r / 4 = r by omega] at t
  rcases t with ⟨hl, _⟩ | ⟨e, he, hl, _⟩
  · exact br_f (fun z => sg_le0.mp z hl) (H _ _ h hl (fun _ z => z))
  · rw [hl]
    refine br_t (nI_pos' (by omega)) ⟨vp_in_nI hr (by omega), nm_e ?_⟩
    refine pk_loop (σ := Nat → Int32) (fun n i s => wX_demote_21 post (nI r) (nI e) c n (nI i) a1 a2 s a4 (upd a5 r (-1)) a6 a7 a8) (fun i s => (∀ j, j < i → s (4 * r + j) = nI (4 * e + j)) ∧ ∀ p, p / 4 ≠ r → s p = a3 p) 4 0 a3 (by omega) ⟨fun j hj => absurd hj (by omega), fun _ _ => rfl⟩
      (fun n s hs => pk_le 4 4 (fun _ => ?_) (fun z => absurd z (by omega)))
      (fun n i s hi hs hw => pk_le 4 i (fun z => absurd z (by omega)) (fun _ => ?_))
    · refine H _ _ (sg_demo h hr (by decide) hl he hs.1 hs.2) (by rw [pk_us]; decide) (fun q hq => ?_)
      by_cases z : q = r
      · rw [z, pk_us]
        decide
      · rw [pk_un z]
        exact hq
    · rw [sg_ix, sg_ix, nI_clamp (show 4 * r + i < 2 ^ 31 by omega)]
      refine ⟨vp_in_nI (by omega) (by omega), nm_e (nm_r (nI_1 i) (hw _ ⟨lt_s (fun j hj => ?_) pk_us, fun p hp => ?_⟩))⟩
      · rw [pk_un (by omega)]
        exact hs.1 j hj
      · rw [pk_un (by omega)]
        exact hs.2 p hp
theorem sg_release {post : St1 → Prop} {r : Nat} (hr : r < 8) (H : ∀ b6, post (c, a1, a2, a3, a4, a5, b6, a7, a8)) : wpX_release post (c, a1, a2, a3, a4, a5, a6, a7, a8) (nI r) := by
  unfold wpX_release
  dsimp only
  refine sg_heldBy (br_t (by decide) (H a6)) (fun k hk => br_f (nI_pos (by omega)) ⟨vp_in_nI hr (by omega), br_c (fun _ => ?_) (fun _ => H a6)⟩)
  refine pk_loop (σ := Int32) (fun n i s => wX_release_25 post (nI r) (nI k) c a1 a2 a3 a4 a5 a6 a7 a8 n s (nI i)) (fun _ _ => True) 4 0 0 (by omega) trivial
    (fun n s _ => pk_le 4 4 (fun _ => br_c (fun _ => ⟨vp_in_nI hk (by omega), nm_e (H _)⟩) (fun _ => H a6)) (fun z => absurd z (by omega)))
    (fun n i s hi _ hw => pk_le 4 i (fun z => absurd z (by omega)) (fun _ => ?_))
  rw [sg_ix]
  exact ⟨vp_in_nI (by omega) (by omega), nm_e (br_c (fun _ => br_c (fun _ => nm_r (nI_1 i) (hw _ trivial)) (fun _ => br_c (fun _ => nm_r (nI_1 i) (hw _ trivial)) (fun _ => nm_r (nI_1 i) (hw _ trivial)))) (fun _ => nm_r (nI_1 i) (hw _ trivial)))⟩
theorem sg_remove {post : St1 → Prop} (h : sg_I a2 a3 a5 g) {p : Nat} (hp : p < 32) (hg : g p < 16) (H : ∀ b2 b3 b5 b6, sg_I b2 b3 b5 (sg_up g p 16) → post (c, a1, b2, b3, a4, b5, b6, a7, a8)) : wpX_remove post (c, a1, a2, a3, a4, a5, a6, a7, a8) (nI p) := by
  unfold wpX_remove
  dsimp only
  refine nm_r (sg_s2 (by omega)) (sg_demote h (by omega) (fun b3 b5 hI hl _ => ?_))
  have hx : b3 p = nI (g p) := by
    rcases sg_I_small hI hp hl with ⟨_, t⟩ | ⟨t, _⟩
    · exact t
    · omega
  dsimp only
  rw [nI_clamp (show p < 2 ^ 31 by omega), hx]
  refine ⟨vp_in_nI hp (by omega), nm_e ⟨vp_in_nI hg (by omega), vp_in_nI hg (by omega), nm_e ⟨vp_in_nI hp (by omega), nm_e (sg_release (by omega) (fun b6 => ?_))⟩⟩⟩
  rw [nI_clamp (show g p < 2 ^ 31 by omega)]
  exact H _ _ _ _ (sg_drop hI hp hl rfl hg (by decide))
end
end
section
/-! ===== the calls ===== -/
section
variable {c : Int32} {a1 a2 a3 a4 a5 a6 a7 a8 : Nat → Int32} {g : Nat → Nat}
theorem sg_xor4 : ∀ r, r < 8 → nI r ^^^ 4 = nI (r ^^^ 4) ∧ r ^^^ 4 < 8 := by decide
/-- how many frames are in use -/
def sg_use (g : Nat → Nat) : Nat := sg_sum (fun f => if 0 < sg_cnt g f then 1 else 0) 16
theorem sg_use_le (g : Nat → Nat) : sg_use g ≤ 16 := sg_sum_le (fun _ _ => sg_ind _)
theorem sg_use_lt {g : Nat → Nat} (h : sg_use g ≠ 16) : ∃ f, f < 16 ∧ sg_cnt g f = 0 := by
  obtain ⟨f, hf, hz⟩ := sg_sum_lt (f := fun f => if 0 < sg_cnt g f then 1 else 0) (n := 16) (fun _ _ => sg_ind _) h
  refine ⟨f, hf, ?_⟩
  rcases Nat.eq_zero_or_pos (sg_cnt g f) with z | z
  · exact z
  · rw [if_pos z] at hz
    omega
theorem sg_bringIn {post : Int32 → St1 → Prop} (h : sg_I a2 a3 a5 g) {p : Nat} (hp : p < 32) (H0 : g p < 16 → post 0 (c, a1, a2, a3, a4, a5, a6, a7, a8)) (H2 : g p = 16 → sg_use g = 16 → post (-2) (c, a1, a2, a3, a4, a5, a6, a7, a8))
    (H1 : g p = 16 → sg_use g ≠ 16 → ∀ c' b1 b2 b3 b4 b5 b6 b7 g', sg_I b2 b3 b5 g' → g' p < 16 → (∀ q, q < 32 → g q < 16 → g' q < 16) → post 1 (c', b1, b2, b3, b4, b5, b6, b7, a8)) : wpX_bringIn post (c, a1, a2, a3, a4, a5, a6, a7, a8) (nI p) := by
  unfold wpX_bringIn
  dsimp only
  refine sg_frameOf h hp (fun hg => br_f (nI_pos (by omega)) (H0 hg)) (fun hg r hr => br_t hr ?_)
  refine sg_fIU (u := sg_cnt g) h.2.2 (fun f _ => sg_cnt_le g f) ?_
  have hb := sg_use_le g
  refine pk_eq (sg_use g) 16 (fun hz => H2 hg hz) (fun hz => ?_)
  refine sg_take (u := sg_cnt g) h.2.2 (fun f _ => sg_cnt_le g f) (sg_use_lt hz) hp (fun f c' b6 b7 hf hc => br_t (nI_pos' (by omega)) ?_)
  refine pk_loop (σ := Nat → Int32) (fun n i s => wX_bringIn_42 post (nI p) (nI f) c' n (nI i) s a2 a3 a4 a5 b6 b7 a8) (fun _ _ => True) 4 0 a1 (by omega) trivial
    (fun n s _ => pk_le 4 4 (fun _ => ?_) (fun z => absurd z (by omega)))
    (fun n i s hi _ hw => pk_le 4 i (fun z => absurd z (by omega)) (fun _ => ?_))
  · rw [nI_clamp (show f < 2 ^ 31 by omega), nI_clamp (show p < 2 ^ 31 by omega), sg_s2 (show p < 2 ^ 31 by omega)]
    refine ⟨vp_in_nI hf (by omega), nm_e ⟨vp_in_nI hp (by omega), nm_e ⟨vp_in_nI hp (by omega), nm_e (sg_promote (sg_come h hp hg hf hc) (by omega) (fun b1 b2 b3 b5 b6' g' hI hq => ?_))⟩⟩⟩
    refine H1 hg hz _ _ _ _ _ _ _ _ g' hI (hq p hp (by rw [sg_ups]; exact hf)) (fun q hq' hgq => hq q hq' ?_)
    by_cases e : q = p
    · rw [e, sg_ups]
      exact hf
    · rw [sg_upn e]
      exact hgq
  · rw [sg_ix]
    exact ⟨vp_in_nI (by omega) (by omega), nm_e (nm_r (nI_1 i) (hw _ trivial))⟩
theorem sg_touch {post : Int32 → St1 → Prop} (h : sg_I a2 a3 a5 g) {p v : Nat} (hp : p < 2) (hv : v < 16) (H0 : g (16 * p + v) < 16 → post 0 (c, a1, a2, a3, a4, a5, a6, a7, a8)) (H2 : g (16 * p + v) = 16 → sg_use g = 16 → post (-2) (c, a1, a2, a3, a4, a5, a6, a7, a8))
    (H1 : g (16 * p + v) = 16 → sg_use g ≠ 16 → ∀ c' b1 b2 b3 b4 b5 b6 b7 g', sg_I b2 b3 b5 g' → g' (16 * p + v) < 16 → (∀ q, q < 32 → g q < 16 → g' q < 16) → post 1 (c', b1, b2, b3, b4, b5, b6, b7, a8)) : wpX_touch post (c, a1, a2, a3, a4, a5, a6, a7, a8) (nI p) (nI v) := by
  unfold wpX_touch
  dsimp only
  refine sg_bad hp (by omega) (fun _ => br_t rfl ?_) (fun z => absurd z (by omega))
  rw [sg_pg]
  exact sg_bringIn h (by omega) H0 H2 H1
theorem sg_open {post : Int32 → St1 → Prop} (h : sg_I a2 a3 a5 g) {p : Nat} (hp : p < 32) (H : ∀ r c' b1 b2 b3 b4 b5 b6 b7 g', sg_I b2 b3 b5 g' → (0 ≤ r → g' p < 16) → post r (c', b1, b2, b3, b4, b5, b6, b7, a8)) : wpX_open post (c, a1, a2, a3, a4, a5, a6, a7, a8) (nI p) := by
  unfold wpX_open
  dsimp only
  refine sg_frameOf h hp (fun hg => br_t (nI_pos' (by omega)) ?_) (fun hg r hr => br_f (fun z => sg_le0.mp z hr) ?_)
  · have hcb := sg_cnt_le g (g p)
    have hb := sg_use_le g
    have hn2 : ∀ x : Int32, ¬ 0 ≤ x → post x (c, a1, a2, a3, a4, a5, a6, a7, a8) := fun x hx => H x _ _ _ _ _ _ _ _ g h (fun z => absurd z hx)
    rw [nI_clamp (show g p < 2 ^ 31 by omega), h.2.2 _ hg]
    refine ⟨vp_in_nI hp (by omega), br_c (fun _ => ⟨vp_in_nI hg (by omega), pk_eq (sg_cnt g (g p)) 1 (fun _ => H _ _ _ _ _ _ _ _ _ g h (fun _ => hg)) (fun hc => ?_)⟩) (fun _ => hn2 _ (by decide))⟩
    refine sg_fIU (u := sg_cnt g) h.2.2 (fun f _ => sg_cnt_le g f) ?_
    refine pk_eq (sg_use g) 16 (fun hz => hn2 _ (by decide)) (fun hz => ?_)
    refine sg_take (u := sg_cnt g) h.2.2 (fun f _ => sg_cnt_le g f) (sg_use_lt hz) hp (fun f c' b6 b7 hf hc0 => br_t (nI_pos' (by omega)) ?_)
    refine sg_copyFrame hg hf (fun b1 => ?_)
    dsimp only
    rw [nI_clamp (show f < 2 ^ 31 by omega), nI_clamp (show p < 2 ^ 31 by omega), sg_s2 (show p < 2 ^ 31 by omega), (sg_xor4 (p / 4) (by omega)).1]
    have h1 := sg_cnt_pos (g := g) (f := g p) hp rfl
    have h2 := sg_cnt_le2 (g := g) (f := g p) hp rfl (fun q hq e => (sg_I_sh h p q hp hq hg e.symm).symm)
    have hI := sg_go h (y := 1) (n := 1) hp (sg_I_two h hp hg hc) rfl hg hf hc0 (by omega) rfl
    refine ⟨vp_in_nI hg (by omega), nm_e ⟨vp_in_nI hf (by omega), nm_e ⟨vp_in_nI hp (by omega), nm_e (sg_release (by omega) (fun b6' => ?_))⟩⟩⟩
    refine sg_promote hI (by omega) (fun d1 d2 d3 d5 d6 g1 hI1 hq1 => ?_)
    refine sg_promote hI1 (sg_xor4 (p / 4) (by omega)).2 (fun e1 e2 e3 e5 e6 g2 hI2 hq2 => ?_)
    exact H _ _ _ _ _ _ _ _ _ g2 hI2 (fun _ => hq2 p hp (hq1 p hp (by rw [sg_ups]; exact hf)))
  · refine sg_bringIn h hp (fun z => absurd z (by omega)) (fun _ _ => br_f (by decide) (H _ _ _ _ _ _ _ _ _ g h (fun z => absurd z (by decide)))) (fun _ _ c' b1 b2 b3 b4 b5 b6 b7 g' hI hgp _ => br_t (by decide) (H _ _ _ _ _ _ _ _ _ g' hI (fun _ => hgp)))
theorem sg_write {post : Int32 → St1 → Prop} (h : sg_I a2 a3 a5 g) {p v w : Nat} {x : Int32} (hp : p < 2) (hv : v < 16) (hw : w < 4) (H : ∀ r c' b1 b2 b3 b4 b5 b6 b7 b8 g', sg_I b2 b3 b5 g' → post r (c', b1, b2, b3, b4, b5, b6, b7, b8)) : wpX_write post (c, a1, a2, a3, a4, a5, a6, a7, a8) (nI p) (nI v) (nI w) x := by
  unfold wpX_write
  dsimp only
  rw [sg_pg]
  refine sg_bad hp (by omega) (fun _ => br_t rfl (br_f (nI_pos (by omega)) (pk_le w 3 (fun _ => ?_) (fun z => absurd z (by omega))))) (fun z => absurd z (by omega))
  refine sg_open h (by omega) (fun r c' b1 b2 b3 b4 b5 b6 b7 g' hI hr => br_c (fun hz => ?_) (fun _ => H _ _ _ _ _ _ _ _ _ _ g' hI))
  have hg := hr hz
  refine sg_frameOf hI (by omega) (fun _ => ?_) (fun z => absurd z (by omega))
  rw [sg_ix]
  exact ⟨vp_in_nI (by omega) (by omega), nm_e (H _ _ _ _ _ _ _ _ _ _ g' hI)⟩
theorem sg_read {post : Int32 → Prop} (h : sg_I a2 a3 a5 g) {p v w : Nat} (hp : p < 2) (hv : v < 16) (hw : w < 4) (H : ∀ r, post r) : wpX_read post (c, a1, a2, a3, a4, a5, a6, a7, a8) (nI p) (nI v) (nI w) := by
  unfold wpX_read
  dsimp only
  rw [sg_pg]
  refine sg_bad hp (by omega) (fun _ => br_t rfl (br_f (nI_pos (by omega)) (pk_le w 3 (fun _ => ?_) (fun z => absurd z (by omega))))) (fun z => absurd z (by omega))
  refine sg_frameOf h (by omega) (fun hg => br_t (nI_pos' (by omega)) ?_) (fun hg r hr => br_f (fun z => sg_le0.mp z hr) (H _))
  rw [sg_ix]
  exact ⟨vp_in_nI (by omega) (by omega), H _⟩
theorem sg_copy {post : Int32 → St1 → Prop} (h : sg_I a2 a3 a5 g) {p v w : Nat} (hp : p < 2) (hv : v < 16) (hw : w < 16) (H : ∀ r c' b1 b2 b3 b4 b5 b6 b7 b8 g', sg_I b2 b3 b5 g' → post r (c', b1, b2, b3, b4, b5, b6, b7, b8)) : wpX_copy post (c, a1, a2, a3, a4, a5, a6, a7, a8) (nI p) (nI v) (nI w) := by
  unfold wpX_copy
  dsimp only
  refine sg_bad hp (by omega) (fun _ => br_t rfl (sg_bad hp (by omega) (fun _ => br_t rfl ?_) (fun z => absurd z (by omega)))) (fun z => absurd z (by omega))
  refine pk_loop (σ := Nat → Int32) (fun n i s => wX_copy_23 post (nI p) (nI v) (nI w) c n (nI i) a1 a2 a3 a4 a5 a6 a7 s) (fun _ _ => True) 4 0 a8 (by omega) trivial
    (fun n s _ => pk_le 4 4 (fun _ => ?_) (fun z => absurd z (by omega)))
    (fun n i s hi _ hw => pk_le 4 i (fun z => absurd z (by omega)) (fun _ => sg_read h hp hv hi (fun r => ⟨pk_in i 4 hi, nm_e (nm_r (nI_1 i) (hw _ trivial))⟩)))
  rw [sg_pg]
  refine sg_open h (by omega) (fun r c' b1 b2 b3 b4 b5 b6 b7 g' hI hr => br_c (fun hz => ?_) (fun _ => H _ _ _ _ _ _ _ _ _ _ g' hI))
  have hg := hr hz
  refine sg_frameOf hI (by omega) (fun _ => ?_) (fun z => absurd z (by omega))
  refine pk_loop (σ := Nat → Int32) (fun n i t => wX_copy_85 post (nI (g' (16 * p + w))) c' n (nI i) t b2 b3 b4 b5 b6 b7 s) (fun _ _ => True) 4 0 b1 (by omega) trivial
    (fun n t _ => pk_le 4 4 (fun _ => H _ _ _ _ _ _ _ _ _ _ g' hI) (fun z => absurd z (by omega)))
    (fun n i t hi _ hw => pk_le 4 i (fun z => absurd z (by omega)) (fun _ => ?_))
  rw [sg_ix]
  exact ⟨pk_in i 4 hi, vp_in_nI (by omega) (by omega), nm_e (nm_r (nI_1 i) (hw _ trivial))⟩
theorem sg_unmap {post : Int32 → St1 → Prop} (h : sg_I a2 a3 a5 g) {p v : Nat} (hp : p < 2) (hv : v < 16) (H : ∀ r c' b1 b2 b3 b4 b5 b6 b7 b8 g', sg_I b2 b3 b5 g' → post r (c', b1, b2, b3, b4, b5, b6, b7, b8)) : wpX_unmap post (c, a1, a2, a3, a4, a5, a6, a7, a8) (nI p) (nI v) := by
  unfold wpX_unmap
  dsimp only
  rw [sg_pg]
  refine sg_bad hp (by omega) (fun _ => br_t rfl ?_) (fun z => absurd z (by omega))
  exact sg_frameOf h (by omega) (fun hg => br_t (nI_pos' (by omega)) (sg_remove h (by omega) hg (fun b2 b3 b5 b6 hI => H _ _ _ _ _ _ _ _ _ _ _ hI))) (fun hg r hr => br_f (fun z => sg_le0.mp z hr) (H _ _ _ _ _ _ _ _ _ _ g h))
theorem sg_unmapRange {post : Int32 → St1 → Prop} (h : sg_I a2 a3 a5 g) {p v w : Nat} (hp : p < 2) (hv : v < 16) (hvw : v ≤ w) (hw : w < 2 ^ 31) (H : ∀ r b2 b3 b5 b6 g', sg_I b2 b3 b5 g' → (w < 16 → ∀ j, v ≤ j → j ≤ w → g' (16 * p + j) = 16) → post r (c, a1, b2, b3, a4, b5, b6, a7, a8)) : wpX_unmapRange post (c, a1, a2, a3, a4, a5, a6, a7, a8) (nI p) (nI v) (nI w) := by
  unfold wpX_unmapRange
  dsimp only
  refine sg_bad hp (by omega) (fun _ => br_t rfl (sg_bad hp hw (fun hw16 => br_t rfl ?_) (fun z => br_f (by decide) (H _ _ _ _ _ g h (fun z' => absurd z' (by omega)))))) (fun z => absurd z (by omega))
  refine pk_loop (σ := Int32 × (Nat → Int32) × (Nat → Int32) × (Nat → Int32) × (Nat → Int32)) (fun n i s => wX_unmapRange_26 post (nI p) (nI w) n s.1 (nI i) c a1 s.2.1 s.2.2.1 a4 s.2.2.2.1 s.2.2.2.2 a7 a8) (fun i s => ∃ k, sg_I s.2.1 s.2.2.1 s.2.2.2.1 k ∧ ∀ j, v ≤ j → j < i → k (16 * p + j) = 16) (w + 1) v (0, a2, a3, a5, a6) (by omega) ⟨g, h, fun j h1 h2 => absurd h1 (by omega)⟩
    (fun n s hs => pk_lt w (w + 1) (fun _ => ?_) (fun z => absurd z (by omega)))
    (fun n i s hi hs hw => pk_lt w i (fun z => absurd z (by omega)) (fun _ => ?_))
  · obtain ⟨k, hI, hk⟩ := hs
    exact H _ _ _ _ _ k hI (fun _ j h1 h2 => hk j h1 (by omega))
  · obtain ⟨y, b2, b3, b5, b6⟩ := s
    obtain ⟨k, hI, hk⟩ := hs
    dsimp only at hI hk ⊢
    rw [sg_pg]
    refine sg_frameOf hI (by omega) (fun hg => br_f (nI_pos (by omega)) (sg_remove hI (by omega) hg (fun d2 d3 d5 d6 hI' => nm_e (nm_r (nI_1 i) (hw (_, d2, d3, d5, d6) ⟨_, hI', fun j h1 h2 => ?_⟩))))) (fun hg r hr => br_t hr (nm_r (nI_1 i) (hw (_, b2, b3, b5, b6) ⟨k, hI, fun j h1 h2 => ?_⟩)))
    · by_cases e : j = i
      · rw [e, sg_ups]
      · rw [sg_upn (by omega)]
        exact hk j h1 (by omega)
    · by_cases e : j = i
      · rw [e]
        exact hg
      · exact hk j h1 (by omega)
theorem sg_split {post : Int32 → St1 → Prop} (h : sg_I a2 a3 a5 g) {p : Nat} (hp : p < 2) (H : ∀ r c' b1 b2 b3 b4 b5 b6 b7 b8 g', sg_I b2 b3 b5 g' → post r (c', b1, b2, b3, b4, b5, b6, b7, b8)) : wpX_split post (c, a1, a2, a3, a4, a5, a6, a7, a8) (nI p) := by
  unfold wpX_split
  dsimp only
  have e1 : (1 : Int32) - nI p = nI (1 - p) := pk_sub (a := 1) (b := p) (by omega)
  refine br_f (nI_pos (by omega)) (pk_le p 1 (fun _ => nm_r e1 ?_) (fun z => absurd z (by omega)))
  refine sg_unmapRange (v := 0) (w := 15) h (show 1 - p < 2 by omega) (by omega) (by omega) (by omega) (fun r b2 b3 b5 b6 k hI hk => ?_)
  have hk' : ∀ j, j < 16 → k (16 * (1 - p) + j) = 16 := fun j hj => hk (by omega) j (by omega) (by omega)
  refine pk_loop (σ := (Nat → Int32) × (Nat → Int32)) (fun n i s => wX_split_26 post (nI p) (nI (1 - p)) n (nI i) c a1 b2 s.1 a4 s.2 b6 a7 a8) (fun i s => sg_I b2 s.1 s.2 k ∧ ∀ j, j < i → s.2 (4 * p + j) < 0) 4 0 (b3, b5) (by omega) ⟨hI, fun j hj => absurd hj (by omega)⟩
    (fun n s hs => pk_le 4 4 (fun _ => ?_) (fun z => absurd z (by omega)))
    (fun n i s hi hs hw => pk_le 4 i (fun z => absurd z (by omega)) (fun _ => ?_))
  · obtain ⟨d3, d5⟩ := s
    obtain ⟨hJ, hl⟩ := hs
    dsimp only at hJ hl ⊢
    have hl8 : ∀ r, r < 8 → d5 r < 0 := by
      intro r hr
      by_cases e : r / 4 = p
      · have t := hl (r % 4) (by omega)
        rw [show 4 * p + r % 4 = r by omega] at t
        exact t
      · have t := sg_I_abs hJ (show 16 * (1 - p) + 4 * (r % 4) < 32 by omega) (hk' (4 * (r % 4)) (by omega))
        rw [show (16 * (1 - p) + 4 * (r % 4)) / 4 = r by omega] at t
        exact t
    refine pk_loop (σ := Int32 × (Nat → Int32) × (Nat → Int32) × (Nat → Int32)) (fun n i s => wX_split_51 post (nI p) (nI (1 - p)) c n s.1 (nI i) a1 s.2.1 s.2.2.1 s.2.2.2 d5 b6 a7 a8) (fun i s => ∃ k, sg_I s.2.1 s.2.2.1 d5 k ∧ ∀ j, i ≤ j → j < 16 → k (16 * (1 - p) + j) = 16) 16 0 (0, b2, d3, a4) (by omega) ⟨k, hJ, fun j _ hj => hk' j hj⟩
      (fun n s hs => pk_le 16 16 (fun _ => ?_) (fun z => absurd z (by omega)))
      (fun n i s hi hs hw => pk_le 16 i (fun z => absurd z (by omega)) (fun _ => ?_))
    · obtain ⟨k, hJ, _⟩ := hs
      exact H _ _ _ _ _ _ _ _ _ _ k hJ
    · obtain ⟨y, f2, f3, f4⟩ := s
      obtain ⟨k, hJ, hk⟩ := hs
      dsimp only at hJ hk ⊢
      rw [sg_pg, sg_pg, nI_clamp (show 16 * p + i < 2 ^ 31 by omega), nI_clamp (show 16 * (1 - p) + i < 2 ^ 31 by omega)]
      refine ⟨vp_in_nI (by omega) (by omega), nm_e (br_c (fun _ => nm_r (nI_1 i) (hw (_, f2, f3, f4) ⟨k, hJ, fun j h1 h2 => hk j (by omega) h2⟩)) (fun hn => ?_))⟩
      obtain ⟨hg, hx⟩ := sg_mt_pos (sg_I_small hJ (show 16 * p + i < 32 by omega) (hl8 _ (by omega))) hn
      rw [hx, nI_clamp (show k (16 * p + i) < 2 ^ 31 by omega)]
      have hJ' := sg_share hJ (p := 16 * (1 - p) + i) (q := 16 * p + i) (by omega) (by omega) (by omega) (hk i (Nat.le_refl i) hi) rfl hg hl8
      refine ⟨vp_in_nI (by omega) (by omega), nm_e ⟨vp_in_nI (by omega) (by omega), vp_in_nI (by omega) (by omega), nm_e ⟨vp_in_nI hg (by omega), nm_e (nm_e (nm_r (nI_1 i) (hw (_, _, _, _) ⟨_, hJ', fun j h1 h2 => ?_⟩)))⟩⟩⟩
      rw [sg_upn (by omega)]
      exact hk j (by omega) h2
  · obtain ⟨d3, d5⟩ := s
    obtain ⟨hJ, hl⟩ := hs
    dsimp only at hJ hl ⊢
    rw [sg_ix]
    refine sg_demote hJ (by omega) (fun f3 f5 hJ' hl' hls => nm_r (nI_1 i) (hw (f3, f5) ⟨hJ', lt_s (fun j hj => hls _ (hl j hj)) hl'⟩))
theorem sg_prot94 {post : Int32 → St1 → Prop} (h : sg_I a2 a3 a5 g) {p : Nat} (hp : p < 32) {x z : Int32} (H : ∀ r c' b1 b2 b3 b4 b5 b6 b7 b8 g', sg_I b2 b3 b5 g' → post r (c', b1, b2, b3, b4, b5, b6, b7, b8)) : wX_protect_94 post (nI p) x z (nI p) c a1 a2 a3 a4 a5 a6 a7 a8 := by
  unfold wX_protect_94
  rw [sg_s2 (by omega)]
  exact ⟨vp_in_nI hp (by omega), nm_e (sg_promote h (by omega) (fun b1 b2 b3 b5 b6 g' hI _ => H _ _ _ _ _ _ _ _ _ _ g' hI))⟩
theorem sg_prot68 {post : Int32 → St1 → Prop} (h : sg_I a2 a3 a5 g) {p : Nat} (hp : p < 32) {w x z z' : Int32} (H : ∀ r c' b1 b2 b3 b4 b5 b6 b7 b8 g', sg_I b2 b3 b5 g' → post r (c', b1, b2, b3, b4, b5, b6, b7, b8)) : wX_protect_68 post w (nI p) x z z' c a1 a2 a3 a4 a5 a6 a7 a8 := by
  unfold wX_protect_68
  rw [sg_s2 (by omega)]
  exact br_c (fun _ => H _ _ _ _ _ _ _ _ _ _ g h) (fun _ => sg_demote h (by omega) (fun b3 b5 hI _ _ => br_c (fun _ => sg_prot94 hI hp H) (fun _ => sg_prot94 hI hp H)))
theorem sg_prot50 {post : Int32 → St1 → Prop} (h : sg_I a2 a3 a5 g) {p : Nat} (hp : p < 32) {w z : Int32} (H : ∀ r c' b1 b2 b3 b4 b5 b6 b7 b8 g', sg_I b2 b3 b5 g' → post r (c', b1, b2, b3, b4, b5, b6, b7, b8)) : wX_protect_50 post w (nI p) z c a1 a2 a3 a4 a5 a6 a7 a8 := by
  unfold wX_protect_50
  exact ⟨vp_in_nI hp (by omega), br_c (fun _ => sg_prot68 h hp H) (fun _ => sg_prot68 h hp H)⟩
theorem sg_protect {post : Int32 → St1 → Prop} (h : sg_I a2 a3 a5 g) {p v : Nat} {w : Int32} (hp : p < 2) (hv : v < 16) (H : ∀ r c' b1 b2 b3 b4 b5 b6 b7 b8 g', sg_I b2 b3 b5 g' → post r (c', b1, b2, b3, b4, b5, b6, b7, b8)) : wpX_protect post (c, a1, a2, a3, a4, a5, a6, a7, a8) (nI p) (nI v) w := by
  unfold wpX_protect
  dsimp only
  refine sg_bad hp (by omega) (fun _ => br_t rfl (nm_r (sg_pg p v) ?_)) (fun z => absurd z (by omega))
  exact sg_frameOf h (by omega) (fun hg => br_t (nI_pos' (by omega)) ⟨vp_in_nI (by omega) (by omega), br_c (fun _ => sg_prot50 h (by omega) H) (fun _ => sg_prot50 h (by omega) H)⟩) (fun hg r hr => br_f (fun z => sg_le0.mp z hr) (H _ _ _ _ _ _ _ _ _ _ g h))
theorem sg_turn {post : St1 → Prop} (h : sg_I a2 a3 a5 g) (x y : Int32) (H : ∀ c' b1 b2 b3 b4 b5 b6 b7 b8 g', sg_I b2 b3 b5 g' → post (c', b1, b2, b3, b4, b5, b6, b7, b8)) : wpL_turn post (c, a1, a2, a3, a4, a5, a6, a7, a8) x y := by
  obtain ⟨o, ho, eo⟩ := pk_andE x (m := 15) 4 (by decide)
  obtain ⟨p, hp, ep⟩ := pk_andE y (m := 1) 1 (by decide)
  obtain ⟨v, hv, ev⟩ := pk_andE (y >>> ((1 : Int32) &&& 31)) (m := 15) 4 (by decide)
  obtain ⟨w, hw, ew⟩ := pk_andE (y >>> ((5 : Int32) &&& 31)) (m := 15) 4 (by decide)
  have e3 : nI w &&& 3 = nI (w % 4) := sg_a3 (by omega)
  have e1 : nI w &&& 1 = nI (w % 2) := pk_andN (by omega) 1 (by decide)
  have H' : ∀ (r : Int32) c' b1 b2 b3 b4 b5 b6 b7 b8 g', sg_I b2 b3 b5 g' → post (c', b1, b2, b3, b4, b5, b6, b7, b8) := fun _ => H
  unfold wpL_turn
  dsimp only
  refine nm_r eo (nm_r ep (nm_r ev (nm_r ew ?_)))
  rw [e3, e1, nI_add]
  refine pk_le 3 o (fun _ => pk_le 8 o (fun _ => pk_eq o 8 (fun _ => sg_unmap h hp hv H') (fun _ => pk_le 11 o (fun _ => pk_le 13 o (fun _ => pk_le 15 o (fun _ => ?_) (fun _ => sg_copy h hp hv hw H')) (fun _ => sg_split h hp H')) (fun _ => sg_protect h hp hv H'))) (fun _ => sg_write h hp hv (by omega) H')) (fun _ => ?_)
  · exact sg_unmapRange h hp hv (by omega) (by omega) (fun r b2 b3 b5 b6 g' hI _ => H _ _ _ _ _ _ _ _ _ g' hI)
  · exact sg_touch h hp hv (fun _ => H _ _ _ _ _ _ _ _ _ g h) (fun _ _ => H _ _ _ _ _ _ _ _ _ g h) (fun _ _ c' b1 b2 b3 b4 b5 b6 b7 g' hI _ _ => H _ _ _ _ _ _ _ _ _ g' hI)
end
end
section
/-! ===== the constructor, the law ===== -/
theorem sg_I0 {a3 a5 : Nat → Int32} (h3 : ∀ j, j < 32 → a3 j = -1) (h5 : ∀ j, j < 8 → a5 j = -1) : sg_I (fun _ => 0) a3 a5 (fun _ => 16) := by
  refine ⟨fun p hp => Or.inl ⟨?_, Or.inr ⟨rfl, ?_⟩⟩, fun p q _ _ z _ => absurd z (show ¬ 16 < 16 by omega), fun f hf => ?_⟩
  · rw [h5 _ (by omega)]
    decide
  · rw [h3 _ hp]
    decide
  · rw [sg_cnt_none (fun p _ z => absurd z (show ¬ 16 = f by omega))]
    rfl
theorem sg_fill {s : Nat → Int32} {i : Nat} (hi : i < 2 ^ 31) (h : ∀ j, j < i → s j = -1) : ∀ j, j < i + 1 → upd s (nI i).toNatClampNeg (-1) j = -1 := by
  intro j hj
  rw [nI_clamp hi]
  by_cases e : j = i
  · rw [e, pk_us]
  · rw [pk_un e]
    exact h j (by omega)
theorem sg_init {post : St1 → Prop} {c : Int32} (H : ∀ b3 b5 b6, sg_I (fun _ => 0) b3 b5 (fun _ => 16) → post (c, (fun _ => 0), (fun _ => 0), b3, (fun _ => 0), b5, b6, (fun _ => 0), (fun _ => 0))) : wpX_init post 8 164 c := by
  unfold wpX_init
  refine ⟨by omega, by omega, by omega, by omega, by omega, by omega, by omega, by omega, by omega, by omega, by omega, by omega, by omega, by omega, by omega, by omega, ?_⟩
  refine pk_loop (σ := Nat → Int32) (fun n i s => wX_init_67 post 8 164 8 164 c n (nI i) (fun _ => 0) (fun _ => 0) s (fun _ => 0) (fun _ => 0) (fun _ => 0) (fun _ => 0) (fun _ => 0)) (fun i s => ∀ j, j < i → s j = -1) 32 0 (fun _ => 0) (by omega) (fun j hj => absurd hj (by omega))
    (fun n b3 h3 => pk_le 32 32 (fun _ => ?_) (fun z => absurd z (by omega)))
    (fun n i s hi hs hw => pk_le 32 i (fun z => absurd z (by omega)) (fun _ => ⟨pk_in i 32 hi, nm_e (nm_r (nI_1 i) (hw _ (sg_fill (by omega) hs)))⟩))
  refine pk_loop (σ := Nat → Int32) (fun n i s => wX_init_88 post 8 164 8 164 c n (nI i) (fun _ => 0) (fun _ => 0) b3 (fun _ => 0) s (fun _ => 0) (fun _ => 0) (fun _ => 0)) (fun i s => ∀ j, j < i → s j = -1) 8 0 (fun _ => 0) (by omega) (fun j hj => absurd hj (by omega))
    (fun n b5 h5 => pk_le 8 8 (fun _ => ?_) (fun z => absurd z (by omega)))
    (fun n i s hi hs hw => pk_le 8 i (fun z => absurd z (by omega)) (fun _ => ⟨pk_in i 8 hi, nm_e (nm_r (nI_1 i) (hw _ (sg_fill (by omega) hs)))⟩))
  exact pk_loop (σ := Nat → Int32) (fun n i s => wX_init_109 post 8 164 8 164 c n (nI i) (fun _ => 0) (fun _ => 0) b3 (fun _ => 0) b5 s (fun _ => 0) (fun _ => 0)) (fun _ _ => True) 4 0 (fun _ => 0) (by omega) trivial
    (fun n b6 _ => pk_le 4 4 (fun _ => H _ _ _ (sg_I0 h3 h5)) (fun z => absurd z (by omega)))
    (fun n i s hi _ hw => pk_le 4 i (fun z => absurd z (by omega)) (fun _ => ⟨pk_in i 4 hi, nm_e (nm_r (nI_1 i) (hw _ trivial))⟩))
/-- after i touches: no frame is left, or the pages touched are there -/
def sg_Q (g : Nat → Nat) (i : Nat) : Prop := sg_use g = 16 ∨ ∀ j, j < i → g (16 * (j % 2) + j / 2) < 16
section
variable {post : Int32 → Prop} {L : Nat} {xs : Nat → Int32} {J : Int32 → Int32 → (Nat → Int32) → (Nat → Int32) → (Nat → Int32) → (Nat → Int32) → (Nat → Int32) → (Nat → Int32) → (Nat → Int32) → (Nat → Int32) → Prop} {kc ks : Nat} {c : Int32} {a1 a2 a3 a4 a5 a6 a7 a8 : Nat → Int32} {g : Nat → Nat}
theorem sg_l126 (h : sg_I a2 a3 a5 g) {i : Nat} {z : Int32} (HJ : J (nI (i + 1)) c a1 a2 a3 a4 a5 a6 a7 a8) : wL_law_126 post L xs J (nI i) z z kc ks c a1 a2 a3 a4 a5 a6 a7 a8 := by
  unfold wL_law_126
  exact br_t rfl (sg_counted h (br_f (by decide) (nm_r (nI_1 i) HJ)))
theorem sg_l77a (h : sg_I a2 a3 a5 g) {i : Nat} (hi : i < 32) (hg : g (16 * (i % 2) + i / 2) = 16) (hQ : sg_Q g i) (HJ : ∀ c b1 b2 b3 b4 b5 b6 b7 b8 g', sg_I b2 b3 b5 g' → sg_Q g' (i + 1) → J (nI (i + 1)) c b1 b2 b3 b4 b5 b6 b7 b8) : wL_law_77 post L xs J (nI i) (nI (i % 2)) (nI (i / 2)) 1 kc ks c a1 a2 a3 a4 a5 a6 a7 a8 := by
  unfold wL_law_77
  have hb := sg_use_le g
  refine sg_inUse h (pk_eq (sg_use g) 16 (fun hz => ?_) (fun hz => ?_))
  · unfold wL_law_93
    exact sg_touch h (by omega) (by omega) (fun z => absurd z (by omega)) (fun _ _ => br_f (by decide) (br_f (by decide) (sg_l126 h (HJ _ _ _ _ _ _ _ _ _ g h (Or.inl hz))))) (fun _ z => absurd hz z)
  · unfold wL_law_93
    refine sg_touch h (by omega) (by omega) (fun z => absurd z (by omega)) (fun _ z => absurd z hz) (fun _ _ c' b1 b2 b3 b4 b5 b6 b7 g' hI hp hq => br_f (by decide) (br_t rfl (sg_l126 hI (HJ _ _ _ _ _ _ _ _ _ g' hI (Or.inr (lt_s (fun j hj => hq _ (by omega) ?_) hp))))))
    rcases hQ with z | z
    · exact absurd z hz
    · exact z j hj
theorem sg_l77b (h : sg_I a2 a3 a5 g) {i : Nat} (hi : i < 32) (hg : g (16 * (i % 2) + i / 2) < 16) (hQ : sg_Q g i) (HJ : ∀ c b1 b2 b3 b4 b5 b6 b7 b8 g', sg_I b2 b3 b5 g' → sg_Q g' (i + 1) → J (nI (i + 1)) c b1 b2 b3 b4 b5 b6 b7 b8) : wL_law_77 post L xs J (nI i) (nI (i % 2)) (nI (i / 2)) 0 kc ks c a1 a2 a3 a4 a5 a6 a7 a8 := by
  have hQ' : sg_Q g (i + 1) := by
    rcases hQ with z | z
    · exact Or.inl z
    · exact Or.inr (lt_s z hg)
  have h93 : ∀ z, wL_law_93 post L xs J (nI i) (nI (i % 2)) (nI (i / 2)) 0 z kc ks c a1 a2 a3 a4 a5 a6 a7 a8 := by
    intro z
    unfold wL_law_93
    exact sg_touch h (by omega) (by omega) (fun _ => br_t rfl (sg_l126 h (HJ _ _ _ _ _ _ _ _ _ g h hQ'))) (fun z => absurd z (by omega)) (fun z => absurd z (by omega))
  unfold wL_law_77
  exact sg_inUse h (br_c (fun _ => h93 _) (fun _ => h93 _))
end
theorem sg_l47 {L : Nat} {xs : Nat → Int32} {kc ks : Nat} {c : Int32} {a1 a2 a3 a4 a5 a6 a7 a8 : Nat → Int32} {g : Nat → Nat} (h : sg_I a2 a3 a5 g) : ∃ n, wL_law_47 (fun r => r = 1) L xs kc ks n 0 c a1 a2 a3 a4 a5 a6 a7 a8 := by
  refine pk_loop (σ := St1) (fun n i s => wL_law_47 (fun r => r = 1) L xs kc ks n (nI i) s.1 s.2.1 s.2.2.1 s.2.2.2.1 s.2.2.2.2.1 s.2.2.2.2.2.1 s.2.2.2.2.2.2.1 s.2.2.2.2.2.2.2.1 s.2.2.2.2.2.2.2.2) (fun i s => ∃ g, sg_I s.2.2.1 s.2.2.2.1 s.2.2.2.2.2.1 g ∧ sg_Q g i) 32 0 (c, a1, a2, a3, a4, a5, a6, a7, a8) (by omega) ⟨g, h, Or.inr (fun j hj => absurd hj (by omega))⟩
    (fun n s hs => pk_le 32 32 (fun _ => ?_) (fun z => absurd z (by omega)))
    (fun n i s hi hs hw => pk_le 32 i (fun z => absurd z (by omega)) (fun _ => ?_))
  · obtain ⟨d, b1, b2, b3, b4, b5, b6, b7, b8⟩ := s
    obtain ⟨k, hI, hQ⟩ := hs
    dsimp only at hI hQ ⊢
    have hb := sg_use_le k
    refine sg_inUse hI (pk_eq (sg_use k) 16 (fun _ => rfl) (fun hz => sg_present (p := 0) hI (by omega) (sg_present (p := 1) hI (by omega) (br_t ?_ rfl))))
    have hall : ∀ q, q < 32 → k q < 16 := by
      intro q hq
      rcases hQ with z | z
      · exact absurd z hz
      · have t := z (2 * (q % 16) + q / 16) (by omega)
        rw [show 16 * ((2 * (q % 16) + q / 16) % 2) + (2 * (q % 16) + q / 16) / 2 = q by omega] at t
        exact t
    rw [sg_sum_all (fun v hv => if_pos (hall (16 * 0 + v) (by omega))), sg_sum_all (fun v hv => if_pos (hall (16 * 1 + v) (by omega)))]
    decide
  · obtain ⟨d, b1, b2, b3, b4, b5, b6, b7, b8⟩ := s
    obtain ⟨k, hI, hQ⟩ := hs
    dsimp only at hI hQ ⊢
    have e1 : nI i &&& 1 = nI (i % 2) := pk_andN (by omega) 1 (by decide)
    have e2 : nI i >>> ((1 : Int32) &&& 31) = nI (i / 2) := pk_shrN (by omega) _ 1 (by decide)
    refine nm_r e1 (nm_r e2 (sg_state hI (by omega) (by omega) (fun hg => br_t rfl ?_) (fun hg r hr => br_f hr ?_)))
    · exact sg_l77a hI hi hg hQ (fun d b1 b2 b3 b4 b5 b6 b7 b8 g' hJ hQ' => hw (d, b1, b2, b3, b4, b5, b6, b7, b8) ⟨g', hJ, hQ'⟩)
    · exact sg_l77b hI hi hg hQ (fun d b1 b2 b3 b4 b5 b6 b7 b8 g' hJ hQ' => hw (d, b1, b2, b3, b4, b5, b6, b7, b8) ⟨g', hJ, hQ'⟩)
theorem sg_l10 {L : Nat} (hL : L ≤ 260) {xs : Nat → Int32} {kc ks : Nat} {c : Int32} {a1 a2 a3 a4 a5 a6 a7 a8 : Nat → Int32} {g : Nat → Nat} (h : sg_I a2 a3 a5 g) : ∃ n, wL_law_10 (fun r => r = 1) L xs kc ks n 0 c a1 a2 a3 a4 a5 a6 a7 a8 := by
  refine pk_loop (σ := St1) (fun n i s => wL_law_10 (fun r => r = 1) L xs kc ks n (nI (2 * i)) s.1 s.2.1 s.2.2.1 s.2.2.2.1 s.2.2.2.2.1 s.2.2.2.2.2.1 s.2.2.2.2.2.2.1 s.2.2.2.2.2.2.2.1 s.2.2.2.2.2.2.2.2) (fun i s => ∃ g, sg_I s.2.2.1 s.2.2.2.1 s.2.2.2.2.2.1 g) (L / 2) 0 (c, a1, a2, a3, a4, a5, a6, a7, a8) (by omega) ⟨g, h⟩
    (fun n s hs => pk_le L (2 * (L / 2) + 1) (fun _ => ?_) (fun z => absurd z (by omega)) rfl (nI_1 _))
    (fun n i s hi hs hw => pk_le L (2 * i + 1) (fun z => absurd z (by omega)) (fun _ => ⟨pk_in (2 * i) L (by omega), pk_in (2 * i + 1) L (by omega) (nI_1 _), ?_⟩) rfl (nI_1 _))
  · obtain ⟨k, hI⟩ := hs
    exact sg_l47 hI
  · obtain ⟨d, b1, b2, b3, b4, b5, b6, b7, b8⟩ := s
    obtain ⟨k, hI⟩ := hs
    dsimp only at hI ⊢
    have e2 : nI (2 * i) + 2 = nI (2 * (i + 1)) := nI_add (2 * i) 2
    exact sg_turn hI _ _ (fun d b1 b2 b3 b4 b5 b6 b7 b8 g' hJ => sg_counted hJ (br_f (by decide) (nm_r e2 (hw (d, b1, b2, b3, b4, b5, b6, b7, b8) ⟨g', hJ⟩))))
end
section
theorem i_vc (xs : Nat → Int32) (L : Nat) (hL : L ≤ 260) : wpL_law (fun r => r = 1) L xs :=
  ⟨8, 164, by omega, by omega, sg_init (fun b3 b5 b6 hI => sg_l10 hL hI)⟩
end
