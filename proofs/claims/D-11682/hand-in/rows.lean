section
/-! ===== pure functions of the three masks, and their tables ===== -/
theorem ph_b8 : ∀ n, n < 128 → (nI n).toInt8.toInt32 = nI n := by decide +kernel
/-- the query's tokens -/
def ph_T (u v w : Nat) : Nat → Int32
  | 0 => nI 20
  | 1 => nI 23
  | 2 => nI 14
  | 3 => nI u
  | 4 => nI v
  | 5 => nI 22
  | 6 => nI 23
  | _ => nI w
/-- the row of a word whose places are the mask p -/
def ph_E1 (p b : Nat) : Int32 := nI p &&& ((1 : Int32) <<< (nI b &&& 31))
/-- goOn, by one place: the first e places -/
def ph_go (fr : Int32) (g : Nat → Int32) : Nat → Int32
  | 0 => 0
  | e + 1 => if (fr >>> (nI e &&& 31)) &&& 1 = 0 then ph_go fr g e else ph_go fr g e ||| g (e + 1)
def ph_E2 (pu pv b : Nat) : Int32 := ph_go (ph_E1 pu b) (ph_E1 pv) 23
/-- firstBegin, r places to go -/
def ph_fb (g : Nat → Int32) : Nat → Int32
  | 0 => -1
  | r + 1 => if g (24 - (r + 1)) = 0 then ph_fb g r else nI (24 - (r + 1))
/-- the first end in a set, r places to go -/
def ph_fe (x : Int32) : Nat → Int32
  | 0 => -1
  | r + 1 => if (x >>> (nI (24 - (r + 1)) &&& 31)) &&& 1 = 0 then ph_fe x r else nI (24 - (r + 1))
/-- ones -/
def ph_on (x : Int32) : Nat → Int32
  | 0 => 0
  | e + 1 => ph_on x e + ((x >>> (nI e &&& 31)) &&& 1)
/-- spans of a row -/
def ph_sp (g : Nat → Int32) : Nat → Int32
  | 0 => 0
  | b + 1 => ph_sp g b + ph_on (g b) 24
def ph_has (g : Nat → Int32) : Int32 := if ph_fb g 24 < 0 then 0 else 1
def ph_neg (t : Int32) : Int32 := if t = 0 then 1 else 0
def ph_both (s t : Int32) : Int32 := if s = 0 then 0 else if t = 0 then 0 else 1
def ph_hold (pu pv pw : Nat) : Int32 := ph_both (ph_has (ph_E2 pu pv)) (ph_neg (ph_has (ph_E1 pw)))
theorem ph_go_c {fr : Int32} {g g' : Nat → Int32} : ∀ e, e ≤ 23 → (∀ b, b < 24 → g b = g' b) → ph_go fr g e = ph_go fr g' e := by
  intro e
  induction e with
  | zero => intro _ _; rfl
  | succ e ih =>
    intro he h
    show (if (fr >>> (nI e &&& 31)) &&& 1 = 0 then ph_go fr g e else ph_go fr g e ||| g (e + 1)) = (if (fr >>> (nI e &&& 31)) &&& 1 = 0 then ph_go fr g' e else ph_go fr g' e ||| g' (e + 1))
    rw [ih (by omega) h, h (e + 1) (by omega)]
theorem ph_fb_c {g g' : Nat → Int32} : ∀ r, (∀ b, b < 24 → g b = g' b) → ph_fb g r = ph_fb g' r := by
  intro r
  induction r with
  | zero => intro _; rfl
  | succ r ih =>
    intro h
    show (if g (24 - (r + 1)) = 0 then ph_fb g r else nI (24 - (r + 1))) = (if g' (24 - (r + 1)) = 0 then ph_fb g' r else nI (24 - (r + 1)))
    rw [ih h, h (24 - (r + 1)) (by omega)]
theorem ph_sp_c {g g' : Nat → Int32} : ∀ r, r ≤ 24 → (∀ b, b < 24 → g b = g' b) → ph_sp g r = ph_sp g' r := by
  intro r
  induction r with
  | zero => intro _ _; rfl
  | succ r ih =>
    intro hr h
    show ph_sp g r + ph_on (g r) 24 = ph_sp g' r + ph_on (g' r) 24
    rw [ih (by omega) h, h r (by omega)]
/-- a phrase at 0, a phrase at 1 -/
def ph_A (pu pv : Nat) : Nat := if pu.testBit 0 = true ∧ pv.testBit 1 = true then 1 else 0
def ph_B (pu pv : Nat) : Nat := if pu.testBit 1 = true ∧ pv.testBit 2 = true then 1 else 0
def ph_F (pu pv b : Nat) : Int32 := if b = 0 then nI (2 * ph_A pu pv) else if b = 1 then nI (4 * ph_B pu pv) else 0
theorem ph_t0 : ∀ pu, pu < 8 → ∀ pv, pv < 8 → ∀ b, b < 24 → ph_E2 pu pv b = ph_F pu pv b := by decide +kernel
theorem ph_t1' : ∀ pu, pu < 8 → ∀ pv, pv < 8 → ph_has (ph_F pu pv) = if ph_A pu pv = 0 ∧ ph_B pu pv = 0 then 0 else 1 := by decide +kernel
theorem ph_t2' : ∀ pu, pu < 8 → ∀ pv, pv < 8 → ph_sp (ph_F pu pv) 24 = nI (ph_A pu pv + ph_B pu pv) := by decide +kernel
theorem ph_t3' : ∀ pu, pu < 8 → ∀ pv, pv < 8 → ph_fb (ph_F pu pv) 23 = if ph_B pu pv = 0 then -1 else 1 := by decide +kernel
theorem ph_t4' : ∀ pu, pu < 8 → ∀ pv, pv < 8 → ph_fe (ph_F pu pv 0) 24 = if ph_A pu pv = 0 then -1 else 1 := by decide +kernel
theorem ph_t5 : ∀ pw, pw < 8 → ph_has (ph_E1 pw) = if pw = 0 then 0 else 1 := by decide +kernel
def ph_N (p : Nat) : Nat := p % 2 + p / 2 % 2 + p / 4 % 2
theorem ph_t6 : ∀ pw, pw < 8 → ph_sp (ph_E1 pw) 24 = nI (ph_N pw) := by decide +kernel
theorem ph_t1 {pu pv : Nat} (hu : pu < 8) (hv : pv < 8) : ph_has (ph_E2 pu pv) = if ph_A pu pv = 0 ∧ ph_B pu pv = 0 then 0 else 1 := by
  rw [← ph_t1' pu hu pv hv]
  unfold ph_has
  rw [ph_fb_c 24 (ph_t0 pu hu pv hv)]
theorem ph_t2 {pu pv : Nat} (hu : pu < 8) (hv : pv < 8) : ph_sp (ph_E2 pu pv) 24 = nI (ph_A pu pv + ph_B pu pv) := by
  rw [← ph_t2' pu hu pv hv, ph_sp_c 24 (by omega) (ph_t0 pu hu pv hv)]
theorem ph_t3 {pu pv : Nat} (hu : pu < 8) (hv : pv < 8) : ph_fb (ph_E2 pu pv) 23 = if ph_B pu pv = 0 then -1 else 1 := by
  rw [← ph_t3' pu hu pv hv, ph_fb_c 23 (ph_t0 pu hu pv hv)]
theorem ph_t4 {pu pv : Nat} (hu : pu < 8) (hv : pv < 8) : ph_fe (ph_E2 pu pv 0) 24 = if ph_A pu pv = 0 then -1 else 1 := by
  rw [← ph_t4' pu hu pv hv, ph_t0 pu hu pv hv 0 (by omega)]
theorem ph_t7 {pu pv pw : Nat} (hu : pu < 8) (hv : pv < 8) (hw : pw < 8) : ph_hold pu pv pw = nI (if (¬ ph_A pu pv = 0 ∨ ¬ ph_B pu pv = 0) ∧ pw = 0 then 1 else 0) := by
  unfold ph_hold
  rw [ph_t1 hu hv, ph_t5 pw hw]
  by_cases h1 : ph_A pu pv = 0 <;> by_cases h2 : ph_B pu pv = 0 <;> by_cases h3 : pw = 0 <;> simp [h1, h2, h3, ph_both, ph_neg] <;> rfl
theorem ph_hold01 (pu pv pw : Nat) : ph_hold pu pv pw = 0 ∨ ph_hold pu pv pw = 1 := by
  unfold ph_hold ph_both
  by_cases h1 : ph_has (ph_E2 pu pv) = 0
  · exact Or.inl (if_pos h1)
  · rw [if_neg h1]
    by_cases h2 : ph_neg (ph_has (ph_E1 pw)) = 0
    · exact Or.inl (if_pos h2)
    · exact Or.inr (if_neg h2)
/-- the mask of the word x in the first n of the words g -/
def ph_ms (g : Nat → Nat) (x : Nat) : Nat → Nat
  | 0 => 0
  | n + 1 => ph_ms g x n + (if g n = x then 2 ^ n else 0)
theorem ph_ms_lt (g : Nat → Nat) (x : Nat) : ∀ n, ph_ms g x n < 2 ^ n := by
  intro n
  induction n with
  | zero => exact Nat.one_pos
  | succ n ih =>
    show ph_ms g x n + (if g n = x then 2 ^ n else 0) < 2 ^ (n + 1)
    rw [Nat.pow_succ]
    split <;> omega
theorem ph_or : ∀ p, p < 3 → ∀ m, m < 8 → m < 2 ^ p → nI m ||| ((1 : Int32) <<< (nI p &&& 31)) = nI (m + 2 ^ p) := by decide +kernel
/-- what the masks of three words say -/
def ph_m3 (a b c : Bool) : Nat := 0 + (if a = true then 2 ^ 0 else 0) + (if b = true then 2 ^ 1 else 0) + (if c = true then 2 ^ 2 else 0)
theorem ph_bA : ∀ a b c d e f : Bool, ph_A (ph_m3 a b c) (ph_m3 d e f) = if a = true ∧ e = true then 1 else 0 := by decide +kernel
theorem ph_bB : ∀ a b c d e f : Bool, ph_B (ph_m3 a b c) (ph_m3 d e f) = if b = true ∧ f = true then 1 else 0 := by decide +kernel
theorem ph_bN : ∀ a b c : Bool, ph_N (ph_m3 a b c) = (if a = true then 1 else 0) + (if b = true then 1 else 0) + (if c = true then 1 else 0) := by decide +kernel
theorem ph_ms3 (g : Nat → Nat) (x : Nat) : ph_ms g x 3 = ph_m3 (decide (g 0 = x)) (decide (g 1 = x)) (decide (g 2 = x)) := by
  simp only [ph_ms, ph_m3, decide_eq_true_eq]
theorem ph_msA {g : Nat → Nat} {u v : Nat} : ph_A (ph_ms g u 3) (ph_ms g v 3) = if g 0 = u ∧ g 1 = v then 1 else 0 := by
  rw [ph_ms3, ph_ms3, ph_bA]
  simp only [decide_eq_true_eq]
theorem ph_msB {g : Nat → Nat} {u v : Nat} : ph_B (ph_ms g u 3) (ph_ms g v 3) = if g 1 = u ∧ g 2 = v then 1 else 0 := by
  rw [ph_ms3, ph_ms3, ph_bB]
  simp only [decide_eq_true_eq]
theorem ph_msN {g : Nat → Nat} {w : Nat} : ph_N (ph_ms g w 3) = (if g 0 = w then 1 else 0) + (if g 1 = w then 1 else 0) + (if g 2 = w then 1 else 0) := by
  rw [ph_ms3, ph_bN]
  simp only [decide_eq_true_eq]
theorem ph_N0 : ∀ p, p < 8 → (ph_N p = 0 ↔ p = 0) := by decide +kernel
end
section
/-! ===== read, ask, complete, unask, hasTokens ===== -/
/-- openCount, second, openToken, openWant after n tokens -/
def ph_RD (n : Nat) (oc : Int32) (a5 a6 a7 : Nat → Int32) : Prop := match n with
  | 0 => oc = nI 0
  | 1 => oc = nI 1 ∧ a6 0 = nI 0 ∧ a7 0 = nI 2
  | 2 => oc = nI 2 ∧ a6 0 = nI 0 ∧ a7 0 = nI 1 ∧ a6 1 = nI 1 ∧ a7 1 = nI 1
  | 3 => oc = nI 2 ∧ a6 0 = nI 0 ∧ a7 0 = nI 1 ∧ a6 1 = nI 2 ∧ a7 1 = nI 2
  | 4 => oc = nI 2 ∧ a6 0 = nI 0 ∧ a7 0 = nI 1 ∧ a6 1 = nI 2 ∧ a7 1 = nI 1
  | 5 => oc = nI 1 ∧ a6 0 = nI 0 ∧ a7 0 = nI 1 ∧ a5 2 = nI 4
  | 6 => oc = nI 1 ∧ a6 0 = nI 5 ∧ a7 0 = nI 1 ∧ a5 2 = nI 4 ∧ a5 0 = nI 5
  | 7 => oc = nI 1 ∧ a6 0 = nI 6 ∧ a7 0 = nI 1 ∧ a5 2 = nI 4 ∧ a5 0 = nI 5
  | _ => oc = nI 0 ∧ a5 2 = nI 4 ∧ a5 0 = nI 5
section
variable {post : St2 → Prop} {J7 : Int32 → Int32 → Int32 → (Nat → Int32) → (Nat → Int32) → (Nat → Int32) → (Nat → Int32) → (Nat → Int32) → (Nat → Int32) → (Nat → Int32) → (Nat → Int32) → (Nat → Int32) → Prop} {f oc : Int32} {a1 a2 a3 a4 a5 a6 a7 a8 a9 : Nat → Int32}
theorem ph_att32 {o w o' : Nat} (ho : o < 14) (hw : w < 100) (h7 : a7 o = nI (w + 1)) (e1 : (w = 0 ∧ o' = o) ∨ (0 < w ∧ o' = o + 1))
    (H : post (f, nI o', a1, a2, a3, a4, a5, a6, upd a7 o (nI w), a8, a9)) : wX_attach_32 post (nI o) f (nI (o + 1)) a1 a2 a3 a4 a5 a6 a7 a8 a9 := by
  unfold wX_attach_32
  rw [nI_clamp (show o < 2 ^ 31 by omega), h7]
  refine ⟨pk_in o 14 ho, pk_in o 14 ho, nm_r (e' := upd a7 o (nI w)) (by rw [nI_pred, ph_b8 w (by omega)]) ⟨pk_in o 14 ho, ?_⟩⟩
  refine pk_eq w 0 (fun z => nm_r (nI_pred o) ?_) (fun z => ?_) pk_us
  · rcases e1 with ⟨_, e⟩ | ⟨e, _⟩
    · subst e; exact H
    · exact absurd z (by omega)
  · rcases e1 with ⟨e, _⟩ | ⟨_, e⟩
    · exact absurd e z
    · subst e; exact H
theorem ph_att {o t k w o' : Nat} {a5' : Nat → Int32} (ho : o < 14) (ht : t < 12) (hk : k < 12) (hw : w < 100) (h6 : a6 o = nI t) (h7 : a7 o = nI (w + 1)) (e1 : (w = 0 ∧ o' = o) ∨ (0 < w ∧ o' = o + 1))
    (e2 : (k = t + 1 ∧ a5' = a5) ∨ (k ≠ t + 1 ∧ a5' = upd a5 t (nI k)))
    (H : post (f, nI o', a1, a2, a3, a4, a5', a6, upd a7 o (nI w), a8, a9)) : wpX_attach post (f, nI (o + 1), a1, a2, a3, a4, a5, a6, a7, a8, a9) (nI k) := by
  unfold wpX_attach
  refine nm_r (nI_pred o) ⟨pk_in o 14 ho, ?_⟩
  rw [nI_clamp (show o < 2 ^ 31 by omega), h6, nI_clamp (show t < 2 ^ 31 by omega), nI_1]
  refine pk_eq k (t + 1) (fun z => ?_) (fun z => ⟨pk_in o 14 ho, pk_in t 12 ht, nm_r (e' := upd a5 t (nI k)) (by rw [ph_b8 k (by omega)]) ?_⟩)
  · rcases e2 with ⟨_, e⟩ | ⟨e, _⟩
    · subst e; exact ph_att32 ho hw h7 e1 H
    · exact absurd z e
  · rcases e2 with ⟨e, _⟩ | ⟨_, e⟩
    · exact absurd e z
    · subst e; exact ph_att32 ho hw h7 e1 H
theorem ph_r27a {k t : Nat} (hk : k < 12) (h4 : a4 k = nI t) (ht : t < 12) (H : J7 (nI (k + 1)) f oc a1 a2 a3 a4 a5 a6 a7 a8 a9) : wX_read_27 post J7 (nI k) f oc a1 a2 a3 a4 a5 a6 a7 a8 a9 := by
  unfold wX_read_27
  rw [nI_clamp (show k < 2 ^ 31 by omega), h4]
  exact ⟨pk_in k 12 hk, pk_le 12 t (fun z => absurd z (by omega)) (fun _ => br_t (by decide) (nm_r (nI_1 k) H))⟩
theorem ph_r27b {k o t wt : Nat} (hk : k < 12) (ho : o < 14) (h4 : a4 k = nI t) (ht : 12 ≤ t) (ht' : t < 100) (hwt : wt = if t = 22 ∨ t = 23 then 1 else 2)
    (H : J7 (nI (k + 1)) f (nI (o + 1)) a1 a2 a3 a4 a5 (upd a6 o (nI k)) (upd a7 o (nI wt)) a8 a9) : wX_read_27 post J7 (nI k) f (nI o) a1 a2 a3 a4 a5 a6 a7 a8 a9 := by
  unfold wX_read_27
  have key : ∀ r : Int32, r = nI wt → ((r ≤ 0 → (∀ x1_6 : Int32, x1_6 = nI k + 1 → J7 x1_6 f (nI o) a1 a2 a3 a4 a5 a6 a7 a8 a9)) ∧ (¬ r ≤ 0 → (vp_in (nI o) 14 ∧ ∀ a6_8 : Nat → Int32, a6_8 = upd a6 (nI o).toNatClampNeg (nI k).toInt8.toInt32 → (vp_in (nI o) 14 ∧ ∀ a7_10 : Nat → Int32, a7_10 = upd a7 (nI o).toNatClampNeg r.toInt8.toInt32 → (∀ f_11 : Int32, f_11 = nI o + 1 → (∀ x1_12 : Int32, x1_12 = nI k + 1 → J7 x1_12 f f_11 a1 a2 a3 a4 a5 a6_8 a7_10 a8 a9)))))) := by
    intro r hr
    have hw2 : 0 < wt ∧ wt < 3 := by rw [hwt]; split <;> omega
    subst hr
    rw [nI_clamp (show o < 2 ^ 31 by omega), ph_b8 k (by omega), ph_b8 wt (by omega)]
    exact br_f (nI_nle hw2.1 (by omega)) ⟨pk_in o 14 ho, nm_e ⟨pk_in o 14 ho, nm_e (nm_r (nI_1 o) (nm_r (nI_1 k) H))⟩⟩
  rw [nI_clamp (show k < 2 ^ 31 by omega), h4]
  refine ⟨pk_in k 12 hk, pk_le 12 t (fun _ => ?_) (fun z => absurd z (by omega))⟩
  refine pk_eq t 22 (fun z => key 1 ?_) (fun z => pk_eq t 23 (fun z2 => key 1 ?_) (fun z2 => key 2 ?_))
  · rw [hwt, if_pos (Or.inl z)]; rfl
  · rw [hwt, if_pos (Or.inr z2)]; rfl
  · rw [hwt, if_neg (fun c => c.elim z z2)]; rfl
theorem ph_rstep {u v w i N n : Nat} (hu : u < 4) (hv : v < 4) (hw : w < 4) (hi : i < N) (hN : N ≤ 8) (hT : ∀ j, j < N → a4 j = ph_T u v w j) (h : ph_RD i oc a5 a6 a7)
    (H : ∀ oc' b5 b6 b7, ph_RD (i + 1) oc' b5 b6 b7 → wX_read_7 post n (nI (i + 1)) (nI N) oc' a1 a2 a3 a4 b5 b6 b7 a8 a9) :
    wX_read_7 post (n + 1) (nI i) (nI N) oc a1 a2 a3 a4 a5 a6 a7 a8 a9 := by
  have h4 := hT i hi
  refine pk_le N i (fun z => absurd z (by omega)) (fun _ => ?_)
  obtain rfl | rfl | rfl | rfl | rfl | rfl | rfl | rfl : i = 0 ∨ i = 1 ∨ i = 2 ∨ i = 3 ∨ i = 4 ∨ i = 5 ∨ i = 6 ∨ i = 7 := by omega
  · obtain rfl : oc = nI 0 := h
    refine br_t (by decide) (ph_r27b (o := 0) (t := 20) (wt := 2) (by omega) (by omega) h4 (by omega) (by omega) rfl (H _ _ _ _ ⟨rfl, pk_us, pk_us⟩))
  · obtain ⟨rfl, h60, h70⟩ := h
    refine br_f (by decide) (ph_att (o := 0) (t := 0) (w := 1) (o' := 1) (a5' := a5) (by omega) (by omega) (by omega) (by omega) h60 h70 (Or.inr ⟨by omega, rfl⟩) (Or.inl ⟨rfl, rfl⟩) ?_)
    refine ph_r27b (o := 1) (t := 23) (wt := 1) (by omega) (by omega) h4 (by omega) (by omega) rfl (H _ _ _ _ ⟨rfl, ?_, ?_, pk_us, pk_us⟩)
    · rw [pk_un (by omega)]; exact h60
    · rw [pk_un (by omega), pk_us]
  · obtain ⟨rfl, h60, h70, h61, h71⟩ := h
    refine br_f (by decide) (ph_att (o := 1) (t := 1) (w := 0) (o' := 1) (a5' := a5) (by omega) (by omega) (by omega) (by omega) h61 h71 (Or.inl ⟨rfl, rfl⟩) (Or.inl ⟨rfl, rfl⟩) ?_)
    refine ph_r27b (o := 1) (t := 14) (wt := 2) (by omega) (by omega) h4 (by omega) (by omega) rfl (H _ _ _ _ ⟨rfl, ?_, ?_, pk_us, pk_us⟩)
    · rw [pk_un (by omega)]; exact h60
    · rw [pk_un (by omega), pk_un (by omega)]; exact h70
  · obtain ⟨rfl, h60, h70, h61, h71⟩ := h
    refine br_f (by decide) (ph_att (o := 1) (t := 2) (w := 1) (o' := 2) (a5' := a5) (by omega) (by omega) (by omega) (by omega) h61 h71 (Or.inr ⟨by omega, rfl⟩) (Or.inl ⟨rfl, rfl⟩) ?_)
    refine ph_r27a (t := u) (by omega) h4 (by omega) (H _ _ _ _ ⟨rfl, h60, ?_, h61, pk_us⟩)
    rw [pk_un (by omega)]; exact h70
  · obtain ⟨rfl, h60, h70, h61, h71⟩ := h
    refine br_f (by decide) (ph_att (o := 1) (t := 2) (w := 0) (o' := 1) (a5' := upd a5 2 (nI 4)) (by omega) (by omega) (by omega) (by omega) h61 h71 (Or.inl ⟨rfl, rfl⟩) (Or.inr ⟨by omega, rfl⟩) ?_)
    refine ph_r27a (t := v) (by omega) h4 (by omega) (H _ _ _ _ ⟨rfl, h60, ?_, pk_us⟩)
    rw [pk_un (by omega)]; exact h70
  · obtain ⟨rfl, h60, h70, h52⟩ := h
    refine br_f (by decide) (ph_att (o := 0) (t := 0) (w := 0) (o' := 0) (a5' := upd a5 0 (nI 5)) (by omega) (by omega) (by omega) (by omega) h60 h70 (Or.inl ⟨rfl, rfl⟩) (Or.inr ⟨by omega, rfl⟩) ?_)
    refine ph_r27b (o := 0) (t := 22) (wt := 1) (by omega) (by omega) h4 (by omega) (by omega) rfl (H _ _ _ _ ⟨rfl, pk_us, pk_us, ?_, pk_us⟩)
    rw [pk_un (by omega)]; exact h52
  · obtain ⟨rfl, h60, h70, h52, h50⟩ := h
    refine br_f (by decide) (ph_att (o := 0) (t := 5) (w := 0) (o' := 0) (a5' := a5) (by omega) (by omega) (by omega) (by omega) h60 h70 (Or.inl ⟨rfl, rfl⟩) (Or.inl ⟨rfl, rfl⟩) ?_)
    refine ph_r27b (o := 0) (t := 23) (wt := 1) (by omega) (by omega) h4 (by omega) (by omega) rfl (H _ _ _ _ ⟨rfl, pk_us, pk_us, h52, h50⟩)
  · obtain ⟨rfl, h60, h70, h52, h50⟩ := h
    refine br_f (by decide) (ph_att (o := 0) (t := 6) (w := 0) (o' := 0) (a5' := a5) (by omega) (by omega) (by omega) (by omega) h60 h70 (Or.inl ⟨rfl, rfl⟩) (Or.inl ⟨rfl, rfl⟩) ?_)
    exact ph_r27a (t := w) (by omega) h4 (by omega) (H _ _ _ _ ⟨rfl, h52, h50⟩)
theorem ph_read {u v w N : Nat} (hu : u < 4) (hv : v < 4) (hw : w < 4) (hN : N ≤ 8) (hT : ∀ j, j < N → a4 j = ph_T u v w j)
    (H : ∀ oc b5 b6 b7, ph_RD N oc b5 b6 b7 → post (nI N, oc, a1, a2, a3, a4, b5, b6, b7, a8, a9)) : wpX_read post (nI N, f, a1, a2, a3, a4, a5, a6, a7, a8, a9) := by
  unfold wpX_read
  exact pk_loop (σ := Int32 × (Nat → Int32) × (Nat → Int32) × (Nat → Int32)) (fun n i s => wX_read_7 post n (nI i) (nI N) s.1 a1 a2 a3 a4 s.2.1 s.2.2.1 s.2.2.2 a8 a9) (fun i s => ph_RD i s.1 s.2.1 s.2.2.1 s.2.2.2) N 0 (0, a5, a6, a7) (by omega) rfl
    (fun n s h => pk_le N N (fun _ => H _ _ _ _ h) (fun z => absurd z (by omega)))
    (fun n i s hi h hn => ph_rstep hu hv hw hi hN hT h (fun oc' b5 b6 b7 h' => hn (oc', b5, b6, b7) h'))
end
/-- the picture: size n, sizes a1, posts a3, the first n tokens -/
def ph_S (u v w n : Nat) (a1 a3 : Nat → Int32) (s : St2) : Prop := ∃ oc a2 a4 a5 a6 a7 a8 a9, s = (nI n, oc, a1, a2, a3, a4, a5, a6, a7, a8, a9) ∧ ∀ j, j < n → a4 j = ph_T u v w j
theorem ph_span1 {P : Int32 → Prop} {t : Nat} (ht : t ≤ 18) (H : P 1) : wpX_isSpan P () (nI t) :=
  pk_lt t 0 (fun z => absurd z (by omega)) (fun _ => pk_lt 18 t (fun z => absurd z (by omega)) (fun _ => H))
theorem ph_span0 {P : Int32 → Prop} {t : Nat} (ht : 18 < t) (h2 : t < 100) (H : P 0) : wpX_isSpan P () (nI t) :=
  pk_lt t 0 (fun z => absurd z (by omega)) (fun _ => pk_lt 18 t (fun _ => H) (fun z => absurd z (by omega)))
theorem ph_cond1 {P : Int32 → Prop} {t : Nat} (ht : 20 ≤ t) (h2 : t ≤ 23) (H : P 1) : wpX_isCondition P () (nI t) :=
  pk_lt t 20 (fun z => absurd z (by omega)) (fun _ => pk_lt 23 t (fun z => absurd z (by omega)) (fun _ => H))
theorem ph_cond0 {P : Int32 → Prop} {t : Nat} (ht : t < 20) (H : P 0) : wpX_isCondition P () (nI t) :=
  pk_lt t 20 (fun _ => H) (fun z => absurd z (by omega))
section
variable {post : Int32 → St2 → Prop} {f oc : Int32} {a1 a2 a3 a4 a5 a6 a7 a8 a9 : Nat → Int32}
theorem ph_a93 {n t : Nat} (hn : n < 12) (ht : t < 100) (H : post (nI (n + 1)) (nI (n + 1), oc, a1, a2, a3, upd a4 n (nI t), a5, a6, a7, a8, a9)) : wX_ask_93 post (nI t) 1 (nI n) oc a1 a2 a3 a4 a5 a6 a7 a8 a9 := by
  unfold wX_ask_93
  rw [nI_clamp (show n < 2 ^ 31 by omega), ph_b8 t (by omega)]
  exact br_f (by decide) ⟨pk_in n 12 hn, nm_e (nm_r (nI_1 n) H)⟩
theorem ph_a58s {n t z : Nat} (hz : z = 23 ∨ z ≤ 18) (hn : n < 12) (ht : t ≤ 18) (H : post (nI (n + 1)) (nI (n + 1), oc, a1, a2, a3, upd a4 n (nI t), a5, a6, a7, a8, a9)) : wX_ask_58 post (nI t) (nI z) (nI n) oc a1 a2 a3 a4 a5 a6 a7 a8 a9 := by
  have h72 : wX_ask_72 post (nI t) (nI n) oc a1 a2 a3 a4 a5 a6 a7 a8 a9 := br_f (by decide) (ph_span1 ht (ph_a93 hn (by omega) H))
  exact pk_eq z 23 (fun _ => h72) (fun q => ph_span1 (by omega) (br_f (by decide) h72)) (ha := by omega)
theorem ph_a58c {n t z : Nat} (hz : 20 ≤ z) (hz2 : z < 23) (hn : n < 12) (ht : 20 ≤ t) (ht2 : t ≤ 23) (H : post (nI (n + 1)) (nI (n + 1), oc, a1, a2, a3, upd a4 n (nI t), a5, a6, a7, a8, a9)) : wX_ask_58 post (nI t) (nI z) (nI n) oc a1 a2 a3 a4 a5 a6 a7 a8 a9 :=
  pk_eq z 23 (fun q => absurd q (by omega)) (fun _ => ph_span0 (by omega) (by omega) (br_t rfl (br_t rfl (ph_cond1 ht ht2 (ph_a93 hn (by omega) H)))))
theorem ph_a58n {t z : Nat} (hz : 20 ≤ z) (hz2 : z < 23) (ht : t < 20) (H : post (-1) (f, oc, a1, a2, a3, a4, a5, a6, a7, a8, a9)) : wX_ask_58 post (nI t) (nI z) f oc a1 a2 a3 a4 a5 a6 a7 a8 a9 :=
  pk_eq z 23 (fun q => absurd q (by omega)) (fun _ => ph_span0 (by omega) (by omega) (br_t rfl (br_t rfl (ph_cond0 ht (br_t rfl H)))))
theorem ph_a30 {x : Int32} {o t : Nat} (ho : o < 14) (ht : t < 12) (h6 : a6 o = nI t) (H : wX_ask_58 post x (a4 t) f (nI (o + 1)) a1 a2 a3 a4 a5 a6 a7 a8 a9) : wX_ask_30 post x f (nI (o + 1)) a1 a2 a3 a4 a5 a6 a7 a8 a9 := by
  unfold wX_ask_30
  rw [nI_pred, nI_clamp (show o < 2 ^ 31 by omega), h6, nI_clamp (show t < 2 ^ 31 by omega)]
  exact br_f (nI_nle (by omega) (by omega)) ⟨pk_in o 14 ho, pk_in t 12 ht, H⟩
/-- the head of ask, some tokens there and some places open -/
theorem ph_ask1 {u v w n : Nat} {x : Int32} (hu : u < 4) (hv : v < 4) (hw : w < 4) (h0 : 0 < n) (hn : n < 8) (hT : ∀ j, j < n → a4 j = ph_T u v w j)
    (H : ∀ o b5 b6 b7, ph_RD n (nI (o + 1)) b5 b6 b7 → o < 14 → wX_ask_30 post x (nI n) (nI (o + 1)) a1 a2 a3 a4 b5 b6 b7 a8 a9) : wpX_ask post (nI n, f, a1, a2, a3, a4, a5, a6, a7, a8, a9) x := by
  unfold wpX_ask
  refine ph_read hu hv hw (by omega) hT (fun oc b5 b6 b7 h => ?_)
  have ho : ∃ o, o < 14 ∧ oc = nI (o + 1) := by
    obtain rfl | rfl | rfl | rfl | rfl | rfl | rfl : n = 1 ∨ n = 2 ∨ n = 3 ∨ n = 4 ∨ n = 5 ∨ n = 6 ∨ n = 7 := by omega
    · exact ⟨0, by omega, h.1⟩
    · exact ⟨1, by omega, h.1⟩
    · exact ⟨1, by omega, h.1⟩
    · exact ⟨1, by omega, h.1⟩
    · exact ⟨0, by omega, h.1⟩
    · exact ⟨0, by omega, h.1⟩
    · exact ⟨0, by omega, h.1⟩
  obtain ⟨o, ho, rfl⟩ := ho
  exact pk_le 12 n (fun z => absurd z (by omega)) (fun _ => pk_le n 0 (fun z => absurd z (by omega)) (fun _ => br_f (nI_ne0 (by omega) (by omega)) (H o b5 b6 b7 h ho)))
theorem ph_Tput {u v w n t : Nat} (hT : ∀ j, j < n → a4 j = ph_T u v w j) (ht : ph_T u v w n = nI t) : ∀ j, j < n + 1 → upd a4 n (nI t) j = ph_T u v w j := by
  intro j hj
  by_cases e : j = n
  · subst e; rw [pk_us, ht]
  · rw [pk_un e]; exact hT j (by omega)
end
theorem ph_ask {u v w n : Nat} {x : Int32} {a1 a3 : Nat → Int32} {s : St2} {post : Int32 → St2 → Prop} (hu : u < 4) (hv : v < 4) (hw : w < 4) (hn : n < 8) (hx : x = ph_T u v w n) (hs : ph_S u v w n a1 a3 s)
    (H : ∀ s', ph_S u v w (n + 1) a1 a3 s' → post (nI (n + 1)) s') : wpX_ask post s x := by
  obtain ⟨oc, a2, a4, a5, a6, a7, a8, a9, rfl, hT⟩ := hs
  subst hx
  obtain rfl | h0 : n = 0 ∨ 0 < n := by omega
  · unfold wpX_ask
    refine ph_read hu hv hw (by omega) hT (fun oc b5 b6 b7 h => ?_)
    obtain rfl : oc = nI 0 := h
    refine pk_le 12 0 (fun z => absurd z (by omega)) (fun _ => pk_le 0 0 (fun _ => ?_) (fun z => absurd z (by omega)))
    exact br_t (by decide) (ph_a58c (n := 0) (t := 20) (z := 20) (by omega) (by omega) (by omega) (by omega) (by omega) (H _ ⟨_, _, _, _, _, _, _, _, rfl, ph_Tput hT rfl⟩))
  · refine ph_ask1 hu hv hw h0 hn hT (fun o b5 b6 b7 h ho => ?_)
    obtain rfl | rfl | rfl | rfl | rfl | rfl | rfl : n = 1 ∨ n = 2 ∨ n = 3 ∨ n = 4 ∨ n = 5 ∨ n = 6 ∨ n = 7 := by omega
    · obtain rfl : o = 0 := by have := (nI_eq (by omega) (by omega)).mp h.1; omega
      refine ph_a30 ho (t := 0) (by omega) h.2.1 ?_
      rw [hT 0 (by omega)]
      exact ph_a58c (n := 1) (t := 23) (z := 20) (by omega) (by omega) (by omega) (by omega) (by omega) (H _ ⟨_, _, _, _, _, _, _, _, rfl, ph_Tput hT rfl⟩)
    · obtain rfl : o = 1 := by have := (nI_eq (by omega) (by omega)).mp h.1; omega
      refine ph_a30 ho (t := 1) (by omega) h.2.2.2.1 ?_
      rw [hT 1 (by omega)]
      exact ph_a58s (n := 2) (t := 14) (z := 23) (by omega) (by omega) (by omega) (H _ ⟨_, _, _, _, _, _, _, _, rfl, ph_Tput hT rfl⟩)
    · obtain rfl : o = 1 := by have := (nI_eq (by omega) (by omega)).mp h.1; omega
      refine ph_a30 ho (t := 2) (by omega) h.2.2.2.1 ?_
      rw [hT 2 (by omega)]
      exact ph_a58s (n := 3) (t := u) (z := 14) (by omega) (by omega) (by omega) (H _ ⟨_, _, _, _, _, _, _, _, rfl, ph_Tput hT rfl⟩)
    · obtain rfl : o = 1 := by have := (nI_eq (by omega) (by omega)).mp h.1; omega
      refine ph_a30 ho (t := 2) (by omega) h.2.2.2.1 ?_
      rw [hT 2 (by omega)]
      exact ph_a58s (n := 4) (t := v) (z := 14) (by omega) (by omega) (by omega) (H _ ⟨_, _, _, _, _, _, _, _, rfl, ph_Tput hT rfl⟩)
    · obtain rfl : o = 0 := by have := (nI_eq (by omega) (by omega)).mp h.1; omega
      refine ph_a30 ho (t := 0) (by omega) h.2.1 ?_
      rw [hT 0 (by omega)]
      exact ph_a58c (n := 5) (t := 22) (z := 20) (by omega) (by omega) (by omega) (by omega) (by omega) (H _ ⟨_, _, _, _, _, _, _, _, rfl, ph_Tput hT rfl⟩)
    · obtain rfl : o = 0 := by have := (nI_eq (by omega) (by omega)).mp h.1; omega
      refine ph_a30 ho (t := 5) (by omega) h.2.1 ?_
      rw [hT 5 (by omega)]
      exact ph_a58c (n := 6) (t := 23) (z := 22) (by omega) (by omega) (by omega) (by omega) (by omega) (H _ ⟨_, _, _, _, _, _, _, _, rfl, ph_Tput hT rfl⟩)
    · obtain rfl : o = 0 := by have := (nI_eq (by omega) (by omega)).mp h.1; omega
      refine ph_a30 ho (t := 6) (by omega) h.2.1 ?_
      rw [hT 6 (by omega)]
      exact ph_a58s (n := 7) (t := w) (z := 23) (by omega) (by omega) (by omega) (H _ ⟨_, _, _, _, _, _, _, _, rfl, ph_Tput hT rfl⟩)
/-- a span where a condition is wanted: refused -/
theorem ph_ask_no {u v w : Nat} {a1 a3 : Nat → Int32} {s : St2} {post : Int32 → St2 → Prop} (hu : u < 4) (hv : v < 4) (hw : w < 4) (hs : ph_S u v w 6 a1 a3 s)
    (H : ∀ s', ph_S u v w 6 a1 a3 s' → post (-1) s') : wpX_ask post s 14 := by
  obtain ⟨oc, a2, a4, a5, a6, a7, a8, a9, rfl, hT⟩ := hs
  refine ph_ask1 hu hv hw (by omega) (by omega) hT (fun o b5 b6 b7 h ho => ?_)
  obtain rfl : o = 0 := by have := (nI_eq (by omega) (by omega)).mp h.1; omega
  refine ph_a30 ho (t := 5) (by omega) h.2.1 ?_
  rw [hT 5 (by omega)]
  exact ph_a58n (t := 14) (z := 22) (by omega) (by omega) (by omega) (H _ ⟨_, _, _, _, _, _, _, _, rfl, hT⟩)
/-- a query that is complete takes no more -/
theorem ph_ask_full {u v w : Nat} {x : Int32} {a1 a3 : Nat → Int32} {s : St2} {post : Int32 → St2 → Prop} (hu : u < 4) (hv : v < 4) (hw : w < 4) (hs : ph_S u v w 8 a1 a3 s)
    (H : ∀ s', ph_S u v w 8 a1 a3 s' → post (-2) s') : wpX_ask post s x := by
  obtain ⟨oc, a2, a4, a5, a6, a7, a8, a9, rfl, hT⟩ := hs
  unfold wpX_ask
  refine ph_read hu hv hw (by omega) hT (fun oc b5 b6 b7 h => ?_)
  obtain ⟨rfl, _, _⟩ := h
  exact pk_le 12 8 (fun z => absurd z (by omega)) (fun _ => pk_le 8 0 (fun z => absurd z (by omega)) (fun _ => br_t rfl (H _ ⟨_, _, _, _, _, _, _, _, rfl, hT⟩)))
theorem ph_complete5 {u v w : Nat} {a1 a3 : Nat → Int32} {s : St2} {post : Int32 → St2 → Prop} (hu : u < 4) (hv : v < 4) (hw : w < 4) (hs : ph_S u v w 5 a1 a3 s)
    (H : ∀ s', ph_S u v w 5 a1 a3 s' → post 0 s') : wpX_complete post s := by
  obtain ⟨oc, a2, a4, a5, a6, a7, a8, a9, rfl, hT⟩ := hs
  unfold wpX_complete
  refine ph_read hu hv hw (by omega) hT (fun oc b5 b6 b7 h => ?_)
  obtain ⟨rfl, _⟩ := h
  exact pk_le 5 0 (fun z => absurd z (by omega)) (fun _ => br_f (by decide) (H _ ⟨_, _, _, _, _, _, _, _, rfl, hT⟩))
theorem ph_complete8 {u v w : Nat} {f : Int32} {a1 a2 a3 a4 a5 a6 a7 a8 a9 : Nat → Int32} {post : Int32 → St2 → Prop} (hu : u < 4) (hv : v < 4) (hw : w < 4) (hT : ∀ j, j < 8 → a4 j = ph_T u v w j)
    (H : ∀ b5 b6 b7, b5 2 = nI 4 → b5 0 = nI 5 → post 1 (nI 8, nI 0, a1, a2, a3, a4, b5, b6, b7, a8, a9)) : wpX_complete post (nI 8, f, a1, a2, a3, a4, a5, a6, a7, a8, a9) := by
  unfold wpX_complete
  refine ph_read hu hv hw (by omega) hT (fun oc b5 b6 b7 h => ?_)
  obtain ⟨rfl, h52, h50⟩ := h
  exact pk_le 8 0 (fun z => absurd z (by omega)) (fun _ => br_t rfl (H b5 b6 b7 h52 h50))
theorem ph_unask {u v w : Nat} {a1 a3 : Nat → Int32} {s : St2} {post : Int32 → St2 → Prop} (hs : ph_S u v w 8 a1 a3 s)
    (H : ∀ s', ph_S u v w 7 a1 a3 s' → post (nI w) s') : wpX_unask post s := by
  obtain ⟨oc, a2, a4, a5, a6, a7, a8, a9, rfl, hT⟩ := hs
  unfold wpX_unask
  refine br_f (by decide) (nm_r (nI_pred 7) ⟨pk_in 7 12 (by omega), ?_⟩)
  rw [nI_clamp (by omega), hT 7 (by omega)]
  exact H _ ⟨_, _, _, _, _, _, _, _, rfl, fun j hj => hT j (by omega)⟩
section
variable {post : Int32 → Prop} {f oc : Int32} {a1 a2 a3 a4 a5 a6 a7 a8 a9 : Nat → Int32}
/-- hasTokens, one token -/
theorem ph_ht1 {n i c t N : Nat} (hi : i < N) (hN : N ≤ 8) (ht : t < 100) (h4 : a4 i = nI t) (H : wX_hasTokens_4 post (nI N) oc a1 a2 a3 a4 a5 a6 a7 a8 a9 n (nI (c + (if t = 23 then 1 else 0))) (nI (i + 1))) :
    wX_hasTokens_4 post (nI N) oc a1 a2 a3 a4 a5 a6 a7 a8 a9 (n + 1) (nI c) (nI i) := by
  refine pk_le N i (fun z => absurd z (by omega)) (fun _ => ⟨pk_in i 12 (by omega), ?_⟩)
  rw [nI_clamp (show i < 2 ^ 31 by omega), h4]
  refine pk_eq t 23 (fun z => nm_r (nI_1 c) (nm_r (nI_1 i) ?_)) (fun z => nm_r (e' := nI c) (Int32.add_zero _) (nm_r (nI_1 i) ?_))
  · rw [if_pos z] at H; exact H
  · rw [if_neg z] at H; exact H
end
theorem ph_hasTokens {u v w : Nat} {a1 a3 : Nat → Int32} {s : St2} {post : Int32 → Prop} (hu : u < 4) (hv : v < 4) (hw : w < 4) (hs : ph_S u v w 8 a1 a3 s) (H : post 2) : wpX_hasTokens post s := by
  obtain ⟨oc, a2, a4, a5, a6, a7, a8, a9, rfl, hT⟩ := hs
  unfold wpX_hasTokens
  refine ⟨9, ?_⟩
  refine ph_ht1 (i := 0) (c := 0) (t := 20) (by omega) (by omega) (by omega) (hT 0 (by omega)) ?_
  refine ph_ht1 (i := 1) (c := 0) (t := 23) (by omega) (by omega) (by omega) (hT 1 (by omega)) ?_
  refine ph_ht1 (i := 2) (c := 1) (t := 14) (by omega) (by omega) (by omega) (hT 2 (by omega)) ?_
  refine ph_ht1 (i := 3) (c := 1) (t := u) (by omega) (by omega) (by omega) (hT 3 (by omega)) ?_
  rw [if_neg (by omega)]
  refine ph_ht1 (i := 4) (c := 1) (t := v) (by omega) (by omega) (by omega) (hT 4 (by omega)) ?_
  rw [if_neg (by omega)]
  refine ph_ht1 (i := 5) (c := 1) (t := 22) (by omega) (by omega) (by omega) (hT 5 (by omega)) ?_
  refine ph_ht1 (i := 6) (c := 1) (t := 23) (by omega) (by omega) (by omega) (hT 6 (by omega)) ?_
  refine ph_ht1 (i := 7) (c := 2) (t := w) (by omega) (by omega) (by omega) (hT 7 (by omega)) ?_
  rw [if_neg (by omega)]
  exact pk_le 8 8 (fun _ => H) (fun z => absurd z (by omega))
end
section
/-! ===== word, firstBegin, goOn, combine, condition, work ===== -/
theorem ph_i24 (k b : Nat) : nI k * 24 + nI b = nI (k * 24 + b) := by
  rw [← nI_add, ← pk_mul]; rfl
theorem ph_i12 (k b : Nat) : nI k * 12 + nI b = nI (k * 12 + b) := by
  rw [← nI_add, ← pk_mul]; rfl
section
variable {post : St2 → Prop} {f oc : Int32} {a1 a2 a3 a4 a5 a6 a7 a8 a9 : Nat → Int32}
theorem ph_word {k : Nat} {x : Int32} (hk : k < 12)
    (H : ∀ b8, (∀ b, b < 24 → b8 (k * 24 + b) = x &&& ((1 : Int32) <<< (nI b &&& 31))) → (∀ j, j < k * 24 ∨ k * 24 + 24 ≤ j → b8 j = a8 j) → post (f, oc, a1, a2, a3, a4, a5, a6, a7, b8, a9)) :
    wpX_word post (f, oc, a1, a2, a3, a4, a5, a6, a7, a8, a9) (nI k) x := by
  unfold wpX_word
  refine pk_loop (fun n i s => wX_word_2 post (nI k) x f oc n (nI i) a1 a2 a3 a4 a5 a6 a7 s a9) (fun i s => (∀ b, b < i → s (k * 24 + b) = x &&& ((1 : Int32) <<< (nI b &&& 31))) ∧ (∀ j, j < k * 24 ∨ k * 24 + 24 ≤ j → s j = a8 j)) 24 0 a8 (by omega) ⟨fun b hb => absurd hb (by omega), fun _ _ => rfl⟩
    (fun n s h => pk_le 24 24 (fun _ => H s h.1 h.2) (fun z => absurd z (by omega))) (fun n i s hi h hn => ?_)
  refine pk_le 24 i (fun z => absurd z (by omega)) (fun _ => ⟨pk_in (k * 24 + i) 288 (by omega) (ph_i24 k i), ?_⟩)
  rw [pk_cl (k * 24 + i) (ph_i24 k i)]
  refine nm_e (nm_r (nI_1 i) (hn _ ⟨fun b hb => ?_, fun j hj => ?_⟩))
  · by_cases e : b = i
    · subst e; exact pk_us
    · rw [pk_un (by omega)]; exact h.1 b (by omega)
  · rw [pk_un (by omega)]; exact h.2 j hj
theorem ph_fb_w {P : Int32 → Prop} {k : Nat} (hk : k < 12) : ∀ r, r ≤ 24 → P (ph_fb (fun b => a8 (k * 24 + b)) r) → wX_firstBegin_10 P (nI k) f oc a1 a2 a3 a4 a5 a6 a7 a8 a9 (r + 1) (nI (24 - r)) := by
  intro r
  induction r with
  | zero => exact fun _ H => pk_le 24 24 (fun _ => H) (fun z => absurd z (by omega))
  | succ r ih =>
    intro hr H
    refine pk_le 24 (24 - (r + 1)) (fun z => absurd z (by omega)) (fun _ => ⟨pk_in (k * 24 + (24 - (r + 1))) 288 (by omega) (ph_i24 k _), ?_⟩)
    rw [pk_cl (k * 24 + (24 - (r + 1))) (ph_i24 k _)]
    have H' : P (if a8 (k * 24 + (24 - (r + 1))) = 0 then ph_fb (fun b => a8 (k * 24 + b)) r else nI (24 - (r + 1))) := H
    refine br_c (fun z => nm_r (e' := nI (24 - r)) ?_ ?_) (fun z => ?_)
    · rw [nI_1]; exact congrArg nI (by omega)
    · rw [if_pos z] at H'; exact ih (by omega) H'
    · rw [if_neg z] at H'; exact H'
theorem ph_firstBegin {P : Int32 → Prop} {k r : Nat} {x : Int32} (hk : k < 12) (hr : r ≤ 24) (hx : x = nI (24 - r)) (H : P (ph_fb (fun b => a8 (k * 24 + b)) r)) : wpX_firstBegin P (f, oc, a1, a2, a3, a4, a5, a6, a7, a8, a9) (nI k) x := by
  subst hx
  exact pk_le 0 (24 - r) (fun _ => ⟨r + 1, ph_fb_w hk r hr H⟩) (fun z => absurd z (by omega))
theorem ph_goOn {P : Int32 → Prop} {fr : Int32} (H : P (ph_go fr (fun b => a8 (96 + b)) 23)) : wpX_goOn P (f, oc, a1, a2, a3, a4, a5, a6, a7, a8, a9) fr (nI 1) (nI 96) := by
  unfold wpX_goOn
  refine pk_loop (fun n i (s : Int32) => wX_goOn_6 P fr (nI 1) (nI 96) f oc a1 a2 a3 a4 a5 a6 a7 a8 a9 n s (nI i)) (fun i s => s = ph_go fr (fun b => a8 (96 + b)) i) 23 0 0 (by omega) rfl
    (fun n s h => pk_le 24 24 (fun _ => ?_) (fun z => absurd z (by omega))) (fun n i s hi h hn => ?_)
  · show P s
    rw [h]; exact H
  · have hw : ∀ s', s' = (if (fr >>> (nI i &&& 31)) &&& 1 = 0 then ph_go fr (fun b => a8 (96 + b)) i else ph_go fr (fun b => a8 (96 + b)) i ||| a8 (96 + (i + 1))) → wX_goOn_6 P fr (nI 1) (nI 96) f oc a1 a2 a3 a4 a5 a6 a7 a8 a9 n s' (nI (i + 1)) := hn
    refine pk_le 24 (i + 1) (fun z => absurd z (by omega)) (fun _ => br_c (fun z => nm_r (nI_1 i) (hw s ?_)) (fun z => ⟨pk_in (96 + i + 1) 288 (by omega) (by rw [nI_add, nI_add]), ?_⟩)) rfl (nI_add i 1)
    · rw [if_pos z]; exact h
    · rw [pk_cl (96 + i + 1) (by rw [nI_add, nI_add])]
      refine nm_e (nm_r (nI_1 i) (hw _ ?_))
      rw [if_neg z, h]; rfl
/-- THEN by one place at token 2, its parts tokens 3 and 4 -/
theorem ph_combine (h5 : a5 2 = nI 4)
    (H : ∀ b8, (∀ b, b < 24 → b8 (48 + b) = ph_go (a8 (72 + b)) (fun b => a8 (96 + b)) 23) → (∀ j, j < 48 ∨ 72 ≤ j → b8 j = a8 j) → post (f, oc, a1, a2, a3, a4, a5, a6, a7, b8, a9)) :
    wpX_combine post (f, oc, a1, a2, a3, a4, a5, a6, a7, a8, a9) (nI 2) (nI 14) := by
  unfold wpX_combine
  refine nm_r (e' := nI 72) rfl ⟨pk_in 2 12 (by omega), nm_r (e' := nI 96) (by rw [nI_clamp (by omega), h5]; rfl) ?_⟩
  refine pk_loop (fun n i s => wX_combine_24 post (nI 2) (nI 14) (nI 72) (nI 96) f oc n (-1) (nI i) a1 a2 a3 a4 a5 a6 a7 s a9) (fun i s => (∀ b, b < i → s (48 + b) = ph_go (a8 (72 + b)) (fun b => a8 (96 + b)) 23) ∧ (∀ j, j < 48 ∨ 72 ≤ j → s j = a8 j)) 24 0 a8 (by omega) ⟨fun b hb => absurd hb (by omega), fun _ _ => rfl⟩
    (fun n s h => pk_le 24 24 (fun _ => H s h.1 h.2) (fun z => absurd z (by omega))) (fun n i s hi h hn => ?_)
  refine pk_le 24 i (fun z => absurd z (by omega)) (fun _ => ⟨pk_in (72 + i) 288 (by omega) (nI_add 72 i), nm_r (e' := a8 (72 + i)) (by rw [pk_cl (72 + i) (nI_add 72 i)]; exact h.2 _ (by omega)) ?_⟩)
  refine br_f (by decide) (br_f (by decide) (ph_goOn ?_))
  unfold wX_combine_130
  refine ⟨pk_in (48 + i) 288 (by omega) (ph_i24 2 i), ?_⟩
  rw [show (nI 2 * 24 + nI i).toNatClampNeg = 48 + i from pk_cl (48 + i) (ph_i24 2 i)]
  refine nm_e (nm_r (nI_1 i) (hn _ ⟨fun b hb => ?_, fun j hj => ?_⟩))
  · have eg : ph_go (a8 (72 + i)) (fun b => s (96 + b)) 23 = ph_go (a8 (72 + i)) (fun b => a8 (96 + b)) 23 := ph_go_c 23 (by omega) (fun b _ => h.2 _ (by omega))
    by_cases e : b = i
    · subst e; rw [pk_us]; exact eg
    · rw [pk_un (by omega)]; exact h.1 b (by omega)
  · rw [pk_un (by omega)]; exact h.2 j hj
theorem ph_cHas {P : Int32 → Prop} {k : Nat} (hk : k < 11) (H : P (ph_has (fun b => a8 ((k + 1) * 24 + b)))) : wpX_condition P (f, oc, a1, a2, a3, a4, a5, a6, a7, a8, a9) (nI k) (nI 23) := by
  unfold wpX_condition
  rw [nI_1]
  refine ⟨pk_in (k + 1) 12 (by omega), nm_e (br_t rfl (ph_firstBegin (k := k + 1) (r := 24) (by omega) (by omega) rfl ?_))⟩
  have H' : P (if ph_fb (fun b => a8 ((k + 1) * 24 + b)) 24 < 0 then 0 else 1) := H
  refine br_c (fun z => ?_) (fun z => ?_)
  · rw [if_pos z] at H'; exact H'
  · rw [if_neg z] at H'; exact H'
theorem ph_cNot {P : Int32 → Prop} {k : Nat} (hk : k < 11) (H : P (ph_neg (a9 (k + 1)))) : wpX_condition P (f, oc, a1, a2, a3, a4, a5, a6, a7, a8, a9) (nI k) (nI 22) := by
  unfold wpX_condition
  rw [nI_1, nI_clamp (show k + 1 < 2 ^ 31 by omega)]
  have H' : P (if a9 (k + 1) = 0 then 1 else 0) := H
  refine ⟨pk_in (k + 1) 12 (by omega), nm_e (br_f (by decide) (br_t rfl (br_c (fun z => ?_) (fun z => ?_))))⟩
  · rw [if_pos z] at H'; exact H'
  · rw [if_neg z] at H'; exact H'
theorem ph_cBoth {P : Int32 → Prop} {k m : Nat} (hk : k < 11) (hm : m < 12) (h5 : a5 k = nI m) (H : P (ph_both (a9 (k + 1)) (a9 m))) : wpX_condition P (f, oc, a1, a2, a3, a4, a5, a6, a7, a8, a9) (nI k) (nI 20) := by
  unfold wpX_condition
  dsimp only
  rw [nI_1, nI_clamp (show k + 1 < 2 ^ 31 by omega), nI_clamp (show k < 2 ^ 31 by omega), h5, nI_clamp (show m < 2 ^ 31 by omega)]
  have H' : P (if a9 (k + 1) = 0 then 0 else if a9 m = 0 then 0 else 1) := H
  refine ⟨pk_in (k + 1) 12 (by omega), nm_e (br_f (by decide) (br_f (by decide) (br_t rfl (br_c (fun z => ?_) (fun z => ⟨pk_in k 12 (by omega), pk_in m 12 hm, br_c (fun y => ?_) (fun y => ?_)⟩)))))⟩
  · rw [if_pos z] at H'; exact H'
  · rw [if_neg z, if_pos y] at H'; exact H'
  · rw [if_neg z, if_neg y] at H'; exact H'
end
section
variable {post : Int32 → St2 → Prop} {f oc : Int32} {a1 a2 a3 a4 a5 a6 a7 a8 a9 : Nat → Int32}
/-- work, a token that is a word -/
theorem ph_wWord {n d k t : Nat} {x : Int32} (hd : d < 6) (hk : k < 12) (ht : t < 12) (h4 : a4 k = nI t) (h3 : a3 (d * 12 + t) = x)
    (H : ∀ b8, (∀ b, b < 24 → b8 (k * 24 + b) = x &&& ((1 : Int32) <<< (nI b &&& 31))) → (∀ j, j < k * 24 ∨ k * 24 + 24 ≤ j → b8 j = a8 j) → wX_work_16 post (nI d) n (nI k + (-1)) f oc a1 a2 a3 a4 a5 a6 a7 b8 a9) :
    wX_work_16 post (nI d) (n + 1) (nI k) f oc a1 a2 a3 a4 a5 a6 a7 a8 a9 := by
  refine pk_lt k 0 (fun z => absurd z (by omega)) (fun _ => ⟨pk_in k 12 hk, nm_r (e' := nI t) (by rw [nI_clamp (show k < 2 ^ 31 by omega), h4]) ?_⟩)
  refine pk_le 12 t (fun z => absurd z (by omega)) (fun _ => ⟨pk_in (d * 12 + t) 72 (by omega) (ph_i12 d t), ?_⟩)
  rw [pk_cl (d * 12 + t) (ph_i12 d t), h3]
  exact ph_word hk (fun b8 h1 h2 => nm_e (H b8 h1 h2))
/-- work, a token that is a condition -/
theorem ph_wCond {n d k t : Nat} (hk : k < 12) (ht : 20 ≤ t) (ht2 : t ≤ 23) (h4 : a4 k = nI t)
    (H : wpX_condition (fun r => wX_work_16 post (nI d) n (nI k + (-1)) f oc a1 a2 a3 a4 a5 a6 a7 a8 (upd a9 k (vp_nar .boolean r))) (f, oc, a1, a2, a3, a4, a5, a6, a7, a8, a9) (nI k) (nI t)) :
    wX_work_16 post (nI d) (n + 1) (nI k) f oc a1 a2 a3 a4 a5 a6 a7 a8 a9 := by
  refine pk_lt k 0 (fun z => absurd z (by omega)) (fun _ => ⟨pk_in k 12 hk, nm_r (e' := nI t) (by rw [nI_clamp (show k < 2 ^ 31 by omega), h4]) ?_⟩)
  refine pk_le 12 t (fun _ => ph_span0 (by omega) (by omega) (br_t rfl ?_)) (fun z => absurd z (by omega))
  have e : (fun r => wX_work_16 post (nI d) n (nI k + (-1)) f oc a1 a2 a3 a4 a5 a6 a7 a8 (upd a9 k (vp_nar .boolean r))) = (fun r_39 => (vp_in (nI k) 12 ∧ ∀ am19_41 : Nat → Int32, am19_41 = upd a9 (nI k).toNatClampNeg (vp_nar .boolean r_39) → (∀ x2_42 : Int32, x2_42 = nI k + (-1) → (wX_work_16 post (nI d) n x2_42 f oc a1 a2 a3 a4 a5 a6 a7 a8 am19_41)))) := by
    funext r
    rw [nI_clamp (show k < 2 ^ 31 by omega)]
    exact propext ⟨fun h => ⟨pk_in k 12 hk, nm_e (nm_e h)⟩, fun h => h.2 _ rfl _ rfl⟩
  rw [e] at H
  exact H
/-- work, a token that is the phrase -/
theorem ph_wThen {n d : Nat} (h4 : a4 2 = nI 14) (h5 : a5 2 = nI 4)
    (H : ∀ b8, (∀ b, b < 24 → b8 (48 + b) = ph_go (a8 (72 + b)) (fun b => a8 (96 + b)) 23) → (∀ j, j < 48 ∨ 72 ≤ j → b8 j = a8 j) → wX_work_16 post (nI d) n (nI 1) f oc a1 a2 a3 a4 a5 a6 a7 b8 a9) :
    wX_work_16 post (nI d) (n + 1) (nI 2) f oc a1 a2 a3 a4 a5 a6 a7 a8 a9 := by
  refine pk_lt 2 0 (fun z => absurd z (by omega)) (fun _ => ⟨pk_in 2 12 (by omega), nm_r (e' := nI 14) (by rw [nI_clamp (by omega), h4]) ?_⟩)
  refine pk_le 12 14 (fun _ => ph_span1 (by omega) (br_f (by decide) ?_)) (fun z => absurd z (by omega))
  exact ph_combine h5 (fun b8 h1 h2 => nm_r (pk_m1 1) (H b8 h1 h2))
end
theorem ph_vz : ∀ t : Int32, t = 0 ∨ t = 1 → vp_nar .boolean t = t := by
  intro t h
  rcases h with rfl | rfl <;> rfl
theorem ph_has01 (g : Nat → Int32) : ph_has g = 0 ∨ ph_has g = 1 := by
  unfold ph_has
  by_cases h : ph_fb g 24 < 0
  · exact Or.inl (if_pos h)
  · exact Or.inr (if_neg h)
theorem ph_neg01 (t : Int32) : ph_neg t = 0 ∨ ph_neg t = 1 := by
  unfold ph_neg
  by_cases h : t = 0
  · exact Or.inr (if_pos h)
  · exact Or.inl (if_neg h)
theorem ph_both01 (s t : Int32) : ph_both s t = 0 ∨ ph_both s t = 1 := by
  unfold ph_both
  by_cases h : s = 0
  · exact Or.inl (if_pos h)
  · rw [if_neg h]
    by_cases k : t = 0
    · exact Or.inl (if_pos k)
    · exact Or.inr (if_neg k)
theorem ph_has_c {g g' : Nat → Int32} (h : ∀ b, b < 24 → g b = g' b) : ph_has g = ph_has g' := by
  unfold ph_has
  rw [ph_fb_c 24 h]
theorem ph_work {u v w d pu pv pw : Nat} {f : Int32} {a1 a2 a3 a4 a5 a6 a7 a8 a9 : Nat → Int32} {post : Int32 → St2 → Prop} (hu : u < 4) (hv : v < 4) (hw : w < 4) (hd : d < 6) (hT : ∀ j, j < 8 → a4 j = ph_T u v w j)
    (hpu : a3 (d * 12 + u) = nI pu) (hpv : a3 (d * 12 + v) = nI pv) (hpw : a3 (d * 12 + w) = nI pw)
    (H : ∀ b5 b6 b7 b8 b9, (∀ b, b < 24 → b8 (48 + b) = ph_E2 pu pv b) → (∀ b, b < 24 → b8 (168 + b) = ph_E1 pw b) → b9 0 = ph_hold pu pv pw → post 1 (nI 8, nI 0, a1, a2, a3, a4, b5, b6, b7, b8, b9)) :
    wpX_work post (nI 8, f, a1, a2, a3, a4, a5, a6, a7, a8, a9) (nI d) := by
  unfold wpX_work
  refine ph_complete8 hu hv hw hT (fun b5 b6 b7 h52 h50 => ?_)
  refine br_f (by decide) (nm_r (nI_pred 7) ⟨9, ?_⟩)
  refine ph_wWord (k := 7) (t := w) hd (by omega) (by omega) (hT 7 (by omega)) hpw (fun c7 r7 _ => ?_)
  rw [pk_m1 6]
  refine ph_wCond (k := 6) (t := 23) (by omega) (by omega) (by omega) (hT 6 (by omega)) (ph_cHas (by omega) ?_)
  rw [pk_m1 5, ph_vz _ (ph_has01 _), ph_has_c (g' := ph_E1 pw) (fun b hb => r7 b hb)]
  refine ph_wCond (k := 5) (t := 22) (by omega) (by omega) (by omega) (hT 5 (by omega)) (ph_cNot (by omega) ?_)
  rw [pk_m1 4, ph_vz _ (ph_neg01 _), pk_us]
  refine ph_wWord (k := 4) (t := v) hd (by omega) (by omega) (hT 4 (by omega)) hpv (fun c4 r4 s4 => ?_)
  rw [pk_m1 3]
  refine ph_wWord (k := 3) (t := u) hd (by omega) (by omega) (hT 3 (by omega)) hpu (fun c3 r3 s3 => ?_)
  rw [pk_m1 2]
  refine ph_wThen (hT 2 (by omega)) h52 (fun c2 r2 s2 => ?_)
  have e2 : ∀ b, b < 24 → c2 (48 + b) = ph_E2 pu pv b := by
    intro b hb
    rw [r2 b hb, r3 b hb]
    exact ph_go_c 23 (by omega) (fun e he => by rw [s3 _ (by omega)]; exact r4 e he)
  have e7 : ∀ b, b < 24 → c2 (168 + b) = ph_E1 pw b := by
    intro b hb
    rw [s2 _ (by omega), s3 _ (by omega), s4 _ (by omega)]
    exact r7 b hb
  refine ph_wCond (k := 1) (t := 23) (by omega) (by omega) (by omega) (hT 1 (by omega)) (ph_cHas (by omega) ?_)
  rw [pk_m1 0, ph_vz _ (ph_has01 _), ph_has_c (g' := ph_E2 pu pv) (fun b hb => e2 b hb)]
  refine ph_wCond (k := 0) (t := 20) (by omega) (by omega) (by omega) (hT 0 (by omega)) (ph_cBoth (m := 5) (by omega) (by omega) h50 ?_)
  rw [ph_vz _ (ph_both01 _ _)]
  refine br_t (by decide) (H _ _ _ _ _ e2 e7 ?_)
  rw [pk_us, pk_us, pk_un (by omega), pk_us]
  rfl
end
section
/-! ===== holds, spanOf, spans, begins, ends, matching, having, erase, length ===== -/
/-- the posts: the mask of word x in document d -/
def ph_D (q : Nat → Nat → Nat) (a3 : Nat → Int32) : Prop := ∀ d, d < 6 → ∀ x, x < 12 → a3 (d * 12 + x) = nI (q d x)
theorem ph_doc1 {P : Int32 → Prop} {d : Nat} (hd : d < 6) (H : P 1) : wpX_isDocument P () (nI d) :=
  pk_lt d 0 (fun z => absurd z (by omega)) (fun _ => pk_le 6 d (fun z => absurd z (by omega)) (fun _ => H))
theorem ph_word1 {P : Int32 → Prop} {d : Nat} (hd : d < 12) (H : P 1) : wpX_isWord P () (nI d) :=
  pk_lt d 0 (fun z => absurd z (by omega)) (fun _ => pk_le 12 d (fun z => absurd z (by omega)) (fun _ => H))
theorem ph_holds {u v w d : Nat} {q : Nat → Nat → Nat} {a1 a3 : Nat → Int32} {s : St2} {post : Int32 → St2 → Prop} (hu : u < 4) (hv : v < 4) (hw : w < 4) (hd : d < 6) (hD : ph_D q a3) (hs : ph_S u v w 8 a1 a3 s)
    (H : ∀ s', ph_S u v w 8 a1 a3 s' → post (ph_hold (q d u) (q d v) (q d w)) s') : wpX_holds post s (nI d) := by
  obtain ⟨oc, a2, a4, a5, a6, a7, a8, a9, rfl, hT⟩ := hs
  unfold wpX_holds
  refine ph_doc1 hd (br_f (by decide) (ph_work hu hv hw hd hT (hD d hd u (by omega)) (hD d hd v (by omega)) (hD d hd w (by omega)) (fun b5 b6 b7 b8 b9 _ _ e0 => br_f (by decide) ?_)))
  have hp := H (nI 8, nI 0, a1, a2, a3, a4, b5, b6, b7, b8, b9) ⟨_, _, _, _, _, _, _, _, rfl, hT⟩
  rcases ph_hold01 (q d u) (q d v) (q d w) with h | h
  · rw [h] at hp e0
    exact br_t e0 hp
  · rw [h] at hp e0
    exact br_f (by rw [e0]; decide) hp
section
variable {post : Int32 → St2 → Prop} {oc : Int32} {a1 a2 a3 a4 a5 a6 a7 a8 a9 : Nat → Int32}
theorem ph_so0 {n k c i t : Nat} (hi : i < 8) (ht : t < 100) (hn : t ≠ 23) (h4 : a4 i = nI t) (H : wX_spanOf_26 post (nI k) (nI 8) oc a1 a2 a3 a4 a5 a6 a7 a8 a9 n (nI c) (nI (i + 1))) :
    wX_spanOf_26 post (nI k) (nI 8) oc a1 a2 a3 a4 a5 a6 a7 a8 a9 (n + 1) (nI c) (nI i) := by
  refine pk_le 8 i (fun z => absurd z (by omega)) (fun _ => ⟨pk_in i 12 (by omega), ?_⟩)
  rw [nI_clamp (show i < 2 ^ 31 by omega), h4]
  exact pk_eq t 23 (fun z => absurd z hn) (fun _ => nm_r (nI_1 i) H)
theorem ph_so1 {n k c i : Nat} (hi : i < 8) (hk : k < 100) (hc : c < 100) (hn : c ≠ k) (h4 : a4 i = nI 23) (H : wX_spanOf_26 post (nI k) (nI 8) oc a1 a2 a3 a4 a5 a6 a7 a8 a9 n (nI (c + 1)) (nI (i + 1))) :
    wX_spanOf_26 post (nI k) (nI 8) oc a1 a2 a3 a4 a5 a6 a7 a8 a9 (n + 1) (nI c) (nI i) := by
  refine pk_le 8 i (fun z => absurd z (by omega)) (fun _ => ⟨pk_in i 12 (by omega), ?_⟩)
  rw [nI_clamp (show i < 2 ^ 31 by omega), h4]
  exact br_t rfl (pk_eq c k (fun z => absurd z hn) (fun _ => nm_r (nI_1 c) (nm_r (nI_1 i) H)))
theorem ph_so2 {n k i : Nat} (hi : i < 8) (h4 : a4 i = nI 23) (H : post (nI (i + 1)) (nI 8, oc, a1, a2, a3, a4, a5, a6, a7, a8, a9)) :
    wX_spanOf_26 post (nI k) (nI 8) oc a1 a2 a3 a4 a5 a6 a7 a8 a9 (n + 1) (nI k) (nI i) := by
  refine pk_le 8 i (fun z => absurd z (by omega)) (fun _ => ⟨pk_in i 12 (by omega), ?_⟩)
  rw [nI_clamp (show i < 2 ^ 31 by omega), h4]
  refine br_t rfl (br_t rfl ?_)
  rw [nI_1]
  exact H
end
theorem ph_spanOf {u v w d kk : Nat} {r f : Int32} {q : Nat → Nat → Nat} {a1 a2 a3 a4 a5 a6 a7 a8 a9 : Nat → Int32} {post : Int32 → St2 → Prop} (hu : u < 4) (hv : v < 4) (hw : w < 4) (hd : d < 6) (hT : ∀ j, j < 8 → a4 j = ph_T u v w j) (hD : ph_D q a3)
    (hk : (kk = 0 ∧ r = nI 2) ∨ (kk = 1 ∧ r = nI 7) ∨ (kk = 2 ∧ r = -1))
    (H : ∀ b5 b6 b7 b8 b9, (∀ b, b < 24 → b8 (48 + b) = ph_E2 (q d u) (q d v) b) → (∀ b, b < 24 → b8 (168 + b) = ph_E1 (q d w) b) → post r (nI 8, nI 0, a1, a2, a3, a4, b5, b6, b7, b8, b9)) :
    wpX_spanOf post (nI 8, f, a1, a2, a3, a4, a5, a6, a7, a8, a9) (nI kk) (nI d) := by
  unfold wpX_spanOf
  refine ph_doc1 hd (br_f (by decide) (pk_lt kk 0 (fun z => absurd z (by omega)) (fun _ => ?_)))
  refine ph_work hu hv hw hd hT (hD d hd u (by omega)) (hD d hd v (by omega)) (hD d hd w (by omega)) (fun b5 b6 b7 b8 b9 e2 e7 _ => br_f (by decide) ⟨9, ?_⟩)
  have hp := H b5 b6 b7 b8 b9 e2 e7
  refine ph_so0 (i := 0) (c := 0) (t := 20) (by omega) (by omega) (by omega) (hT 0 (by omega)) ?_
  obtain ⟨rfl, rfl⟩ | hk := hk
  · exact ph_so2 (i := 1) (by omega) (hT 1 (by omega)) hp
  refine ph_so1 (i := 1) (c := 0) (by omega) (by omega) (by omega) (by omega) (hT 1 (by omega)) ?_
  refine ph_so0 (i := 2) (c := 1) (t := 14) (by omega) (by omega) (by omega) (hT 2 (by omega)) ?_
  refine ph_so0 (i := 3) (c := 1) (t := u) (by omega) (by omega) (by omega) (hT 3 (by omega)) ?_
  refine ph_so0 (i := 4) (c := 1) (t := v) (by omega) (by omega) (by omega) (hT 4 (by omega)) ?_
  refine ph_so0 (i := 5) (c := 1) (t := 22) (by omega) (by omega) (by omega) (hT 5 (by omega)) ?_
  obtain ⟨rfl, rfl⟩ | ⟨rfl, rfl⟩ := hk
  · exact ph_so2 (i := 6) (by omega) (hT 6 (by omega)) hp
  refine ph_so1 (i := 6) (c := 1) (by omega) (by omega) (by omega) (by omega) (hT 6 (by omega)) ?_
  refine ph_so0 (i := 7) (c := 2) (t := w) (by omega) (by omega) (by omega) (hT 7 (by omega)) ?_
  exact pk_le 8 8 (fun _ => hp) (fun z => absurd z (by omega))
theorem ph_ones {P : Int32 → Prop} {x : Int32} (H : P (ph_on x 24)) : wpX_ones P () x := by
  unfold wpX_ones
  refine pk_loop (fun n i (s : Int32) => wX_ones_4 P x n s (nI i)) (fun i s => s = ph_on x i) 24 0 0 (by omega) rfl
    (fun n s h => pk_le 24 24 (fun _ => ?_) (fun z => absurd z (by omega))) (fun n i s hi h hn => pk_le 24 i (fun z => absurd z (by omega)) (fun _ => nm_e (nm_r (nI_1 i) (hn _ ?_))))
  · show P s
    rw [h]; exact H
  · rw [h]; rfl
theorem ph_sp_w {m : Nat} {oc f : Int32} {a1 a2 a3 a4 a5 a6 a7 a8 a9 : Nat → Int32} {post : Int32 → St2 → Prop} (hm : m < 12) (H : post (ph_sp (fun b => a8 (m * 24 + b)) 24) (f, oc, a1, a2, a3, a4, a5, a6, a7, a8, a9)) :
    ∃ n, wX_spans_19 post (nI m) f oc a1 a2 a3 a4 a5 a6 a7 a8 a9 n 0 0 := by
  refine pk_loop (fun n i (s : Int32) => wX_spans_19 post (nI m) f oc a1 a2 a3 a4 a5 a6 a7 a8 a9 n s (nI i)) (fun i s => s = ph_sp (fun b => a8 (m * 24 + b)) i) 24 0 0 (by omega) rfl
    (fun n s h => pk_le 24 24 (fun _ => ?_) (fun z => absurd z (by omega))) (fun n i s hi h hn => pk_le 24 i (fun z => absurd z (by omega)) (fun _ => ⟨pk_in (m * 24 + i) 288 (by omega) (ph_i24 m i), ph_ones (nm_e (nm_r (nI_1 i) (hn _ ?_)))⟩))
  · show post s (f, oc, a1, a2, a3, a4, a5, a6, a7, a8, a9)
    rw [h]; exact H
  · rw [h, pk_cl (m * 24 + i) (ph_i24 m i)]; rfl
theorem ph_fe_w {x f oc : Int32} {a1 a2 a3 a4 a5 a6 a7 a8 a9 : Nat → Int32} {post : Int32 → St2 → Prop} : ∀ r, r ≤ 24 → post (ph_fe x r) (f, oc, a1, a2, a3, a4, a5, a6, a7, a8, a9) → wX_ends_42 post x f oc a1 a2 a3 a4 a5 a6 a7 a8 a9 (r + 1) (nI (24 - r)) := by
  intro r
  induction r with
  | zero => exact fun _ H => pk_le 24 24 (fun _ => H) (fun z => absurd z (by omega))
  | succ r ih =>
    intro hr H
    refine pk_le 24 (24 - (r + 1)) (fun z => absurd z (by omega)) (fun _ => ?_)
    have H' : post (if (x >>> (nI (24 - (r + 1)) &&& 31)) &&& 1 = 0 then ph_fe x r else nI (24 - (r + 1))) (f, oc, a1, a2, a3, a4, a5, a6, a7, a8, a9) := H
    refine br_c (fun z => nm_r (e' := nI (24 - r)) ?_ ?_) (fun z => ?_)
    · rw [nI_1]; exact congrArg nI (by omega)
    · rw [if_pos z] at H'; exact ih (by omega) H'
    · rw [if_neg z] at H'; exact H'
section
variable {u v w d : Nat} {q : Nat → Nat → Nat} {a1 a3 : Nat → Int32} {s : St2} {post : Int32 → St2 → Prop}
theorem ph_spans0 (hu : u < 4) (hv : v < 4) (hw : w < 4) (hd : d < 6) (hD : ph_D q a3) (hs : ph_S u v w 8 a1 a3 s)
    (H : ∀ s', ph_S u v w 8 a1 a3 s' → post (ph_sp (ph_E2 (q d u) (q d v)) 24) s') : wpX_spans post s 0 (nI d) := by
  obtain ⟨oc, a2, a4, a5, a6, a7, a8, a9, rfl, hT⟩ := hs
  unfold wpX_spans
  refine ph_spanOf (kk := 0) hu hv hw hd hT hD (Or.inl ⟨rfl, rfl⟩) (fun b5 b6 b7 b8 b9 e2 e7 => br_t (by decide) (ph_sp_w (m := 2) (by omega) ?_))
  rw [ph_sp_c (g' := ph_E2 (q d u) (q d v)) 24 (by omega) (fun b hb => e2 b hb)]
  exact H _ ⟨_, _, _, _, _, _, _, _, rfl, hT⟩
theorem ph_spans1 (hu : u < 4) (hv : v < 4) (hw : w < 4) (hd : d < 6) (hD : ph_D q a3) (hs : ph_S u v w 8 a1 a3 s)
    (H : ∀ s', ph_S u v w 8 a1 a3 s' → post (ph_sp (ph_E1 (q d w)) 24) s') : wpX_spans post s 1 (nI d) := by
  obtain ⟨oc, a2, a4, a5, a6, a7, a8, a9, rfl, hT⟩ := hs
  unfold wpX_spans
  refine ph_spanOf (kk := 1) hu hv hw hd hT hD (Or.inr (Or.inl ⟨rfl, rfl⟩)) (fun b5 b6 b7 b8 b9 e2 e7 => br_t (by decide) (ph_sp_w (m := 7) (by omega) ?_))
  rw [ph_sp_c (g' := ph_E1 (q d w)) 24 (by omega) (fun b hb => e7 b hb)]
  exact H _ ⟨_, _, _, _, _, _, _, _, rfl, hT⟩
theorem ph_spans2 (hu : u < 4) (hv : v < 4) (hw : w < 4) (hd : d < 6) (hD : ph_D q a3) (hs : ph_S u v w 8 a1 a3 s)
    (H : ∀ s', ph_S u v w 8 a1 a3 s' → post (-1) s') : wpX_spans post s 2 (nI d) := by
  obtain ⟨oc, a2, a4, a5, a6, a7, a8, a9, rfl, hT⟩ := hs
  unfold wpX_spans
  exact ph_spanOf (kk := 2) hu hv hw hd hT hD (Or.inr (Or.inr ⟨rfl, rfl⟩)) (fun b5 b6 b7 b8 b9 e2 e7 => br_f (by decide) (H _ ⟨_, _, _, _, _, _, _, _, rfl, hT⟩))
theorem ph_begins (hu : u < 4) (hv : v < 4) (hw : w < 4) (hd : d < 6) (hD : ph_D q a3) (hs : ph_S u v w 8 a1 a3 s)
    (H : ∀ s', ph_S u v w 8 a1 a3 s' → post (ph_fb (ph_E2 (q d u) (q d v)) 23) s') : wpX_begins post s 0 (nI d) 1 := by
  obtain ⟨oc, a2, a4, a5, a6, a7, a8, a9, rfl, hT⟩ := hs
  unfold wpX_begins
  refine ph_spanOf (kk := 0) hu hv hw hd hT hD (Or.inl ⟨rfl, rfl⟩) (fun b5 b6 b7 b8 b9 e2 e7 => br_t (by decide) (ph_firstBegin (k := 2) (r := 23) (by omega) (by omega) rfl ?_))
  rw [ph_fb_c (g' := ph_E2 (q d u) (q d v)) 23 (fun b hb => e2 b hb)]
  exact H _ ⟨_, _, _, _, _, _, _, _, rfl, hT⟩
theorem ph_ends (hu : u < 4) (hv : v < 4) (hw : w < 4) (hd : d < 6) (hD : ph_D q a3) (hs : ph_S u v w 8 a1 a3 s)
    (H : ∀ s', ph_S u v w 8 a1 a3 s' → post (ph_fe (ph_E2 (q d u) (q d v) 0) 24) s') : wpX_ends post s 0 (nI d) 0 := by
  obtain ⟨oc, a2, a4, a5, a6, a7, a8, a9, rfl, hT⟩ := hs
  unfold wpX_ends
  refine ph_spanOf (kk := 0) hu hv hw hd hT hD (Or.inl ⟨rfl, rfl⟩) (fun b5 b6 b7 b8 b9 e2 e7 => br_f (by decide) (br_f (by decide) (br_t (by decide) ⟨pk_in 48 288 (by omega) rfl, nm_r (e' := ph_E2 (q d u) (q d v) 0) ?_ ⟨25, ph_fe_w 24 (by omega) ?_⟩⟩)))
  · exact e2 0 (by omega)
  · exact H _ ⟨_, _, _, _, _, _, _, _, rfl, hT⟩
/-- a set of documents -/
def ph_mt (h : Nat → Int32) : Nat → Int32
  | 0 => 0
  | d + 1 => ph_mt h d ||| (if h d = 0 then 0 else (1 : Int32) <<< (nI d &&& 31))
theorem ph_matching (hu : u < 4) (hv : v < 4) (hw : w < 4) (hD : ph_D q a3) (hs : ph_S u v w 8 a1 a3 s)
    (H : ∀ s', ph_S u v w 8 a1 a3 s' → post (ph_mt (fun d => ph_hold (q d u) (q d v) (q d w)) 6) s') : wpX_matching post s := by
  have key : ∃ n, (fun n i (s : Int32 × St2) => wX_matching_4 post n s.1 (nI i) s.2.1 s.2.2.1 s.2.2.2.1 s.2.2.2.2.1 s.2.2.2.2.2.1 s.2.2.2.2.2.2.1 s.2.2.2.2.2.2.2.1 s.2.2.2.2.2.2.2.2.1 s.2.2.2.2.2.2.2.2.2.1 s.2.2.2.2.2.2.2.2.2.2.1 s.2.2.2.2.2.2.2.2.2.2.2) n 0 ((0 : Int32), s) := by
    refine pk_loop (fun n i (s : Int32 × St2) => wX_matching_4 post n s.1 (nI i) s.2.1 s.2.2.1 s.2.2.2.1 s.2.2.2.2.1 s.2.2.2.2.2.1 s.2.2.2.2.2.2.1 s.2.2.2.2.2.2.2.1 s.2.2.2.2.2.2.2.2.1 s.2.2.2.2.2.2.2.2.2.1 s.2.2.2.2.2.2.2.2.2.2.1 s.2.2.2.2.2.2.2.2.2.2.2) (fun i s => s.1 = ph_mt (fun d => ph_hold (q d u) (q d v) (q d w)) i ∧ ph_S u v w 8 a1 a3 s.2) 6 0 (0, s) (by omega) ⟨rfl, hs⟩ (fun n s h => ?_) (fun n i s hi h hn => ?_)
    · obtain ⟨x, t⟩ := s
      obtain ⟨hx, ht⟩ := h
      have hp := H t ht
      obtain ⟨oc, a2, a4, a5, a6, a7, a8, a9, rfl, hT⟩ := ht
      rw [← show x = _ from hx] at hp
      exact pk_le 6 6 (fun _ => hp) (fun z => absurd z (by omega))
    · obtain ⟨x, t⟩ := s
      obtain ⟨hx, ht⟩ := h
      have hx' : x = ph_mt (fun d => ph_hold (q d u) (q d v) (q d w)) i := hx
      have ht' : ph_S u v w 8 a1 a3 t := ht
      have ht2 := ht'
      obtain ⟨oc, a2, a4, a5, a6, a7, a8, a9, rfl, hT⟩ := ht'
      refine pk_le 6 i (fun z => absurd z (by omega)) (fun _ => ph_holds hu hv hw (by omega) hD ht2 (fun s' hs' => ?_))
      have hs2 := hs'
      obtain ⟨oc', c2, c4, c5, c6, c7, c8, c9, rfl, hT'⟩ := hs'
      refine br_c (fun z => nm_e (nm_r (nI_1 i) (hn (_, _) ⟨?_, hs2⟩))) (fun z => nm_e (nm_r (nI_1 i) (hn (_, _) ⟨?_, hs2⟩)))
      · show x ||| 0 = ph_mt (fun d => ph_hold (q d u) (q d v) (q d w)) i ||| (if ph_hold (q i u) (q i v) (q i w) = 0 then 0 else (1 : Int32) <<< (nI i &&& 31))
        rw [if_pos z, hx']
      · show x ||| ((1 : Int32) <<< (nI i &&& 31)) = ph_mt (fun d => ph_hold (q d u) (q d v) (q d w)) i ||| (if ph_hold (q i u) (q i v) (q i w) = 0 then 0 else (1 : Int32) <<< (nI i &&& 31))
        rw [if_neg z, hx']
  obtain ⟨oc, a2, a4, a5, a6, a7, a8, a9, rfl, hT⟩ := hs
  exact key
theorem ph_having {P : Int32 → Prop} (hw : w < 4) (hD : ph_D q a3) (hs : ph_S u v w 8 a1 a3 s)
    (H : P (ph_mt (fun d => nI (q d w)) 6)) : wpX_having P s (nI w) := by
  obtain ⟨oc, a2, a4, a5, a6, a7, a8, a9, rfl, hT⟩ := hs
  unfold wpX_having
  refine pk_loop (fun n i (s : Int32) => wX_having_4 P (nI w) (nI 8) oc a1 a2 a3 a4 a5 a6 a7 a8 a9 n s (nI i)) (fun i s => s = ph_mt (fun d => nI (q d w)) i) 6 0 0 (by omega) rfl
    (fun n s h => pk_le 6 6 (fun _ => ?_) (fun z => absurd z (by omega))) (fun n i s hi h hn => pk_le 6 i (fun z => absurd z (by omega)) (fun _ => ph_word1 (by omega) (br_f (by decide) ⟨pk_in (i * 12 + w) 72 (by omega) (ph_i12 i w), ?_⟩)))
  · show P s
    rw [h]; exact H
  · rw [pk_cl (i * 12 + w) (ph_i12 i w), hD i hi w (by omega)]
    refine br_c (fun z => nm_e (nm_r (nI_1 i) (hn _ ?_))) (fun z => nm_e (nm_r (nI_1 i) (hn _ ?_)))
    · show s ||| 0 = ph_mt (fun d => nI (q d w)) i ||| (if nI (q i w) = 0 then 0 else (1 : Int32) <<< (nI i &&& 31))
      rw [if_pos z, h]
    · show s ||| ((1 : Int32) <<< (nI i &&& 31)) = ph_mt (fun d => nI (q d w)) i ||| (if nI (q i w) = 0 then 0 else (1 : Int32) <<< (nI i &&& 31))
      rw [if_neg z, h]
theorem ph_erase {n : Nat} (hs : ph_S u v w n a1 a3 s)
    (H : ∀ b3 s', (∀ x, x < 12 → b3 x = 0) → (∀ j, 12 ≤ j → b3 j = a3 j) → ph_S u v w n (upd a1 0 0) b3 s' → post 1 s') : wpX_erase post s 0 := by
  obtain ⟨oc, a2, a4, a5, a6, a7, a8, a9, rfl, hT⟩ := hs
  unfold wpX_erase
  refine ph_doc1 (d := 0) (by omega) (br_f (by decide) ⟨pk_in 0 6 (by omega) rfl, nm_r (e' := upd a1 0 0) rfl ?_⟩)
  refine pk_loop (fun m i s => wX_erase_18 post 0 (nI n) oc m (nI i) (upd a1 0 0) a2 s a4 a5 a6 a7 a8 a9) (fun i s => (∀ x, x < i → s x = 0) ∧ (∀ j, 12 ≤ j → s j = a3 j)) 12 0 a3 (by omega) ⟨fun b hb => absurd hb (by omega), fun _ _ => rfl⟩
    (fun m s h => pk_le 12 12 (fun _ => H s _ h.1 h.2 ⟨_, _, _, _, _, _, _, _, rfl, hT⟩) (fun z => absurd z (by omega))) (fun m i s hi h hn => ?_)
  have ei : (0 : Int32) * 12 + nI i = nI i := by
    rw [Int32.zero_mul, Int32.zero_add]
  refine pk_le 12 i (fun z => absurd z (by omega)) (fun _ => ⟨pk_in i 72 (by omega) ei, ?_⟩)
  rw [ei, nI_clamp (show i < 2 ^ 31 by omega)]
  refine nm_e (nm_r (nI_1 i) (hn _ ⟨fun b hb => ?_, fun j hj => ?_⟩))
  · by_cases e : b = i
    · subst e; exact pk_us
    · rw [pk_un e]; exact h.1 b (by omega)
  · rw [pk_un (by omega)]; exact h.2 j hj
theorem ph_length {P : Int32 → Prop} {n : Nat} (hs : ph_S u v w n a1 a3 s) (H : P (a1 0)) : wpX_length P s 0 := by
  obtain ⟨oc, a2, a4, a5, a6, a7, a8, a9, rfl, hT⟩ := hs
  unfold wpX_length
  exact ph_doc1 (d := 0) (by omega) (br_f (by decide) ⟨pk_in 0 6 (by omega) rfl, H⟩)
end
end
section
/-! ===== write, and the two loops that write ===== -/
/-- how many words document e has, p words of document d written -/
def ph_cnt (d p e : Nat) : Nat := if e < d then 3 else if e = d then p else 0
theorem ph_cnt_d (d p : Nat) : ph_cnt d p d = p := by
  unfold ph_cnt
  rw [if_neg (by omega), if_pos rfl]
theorem ph_cnt_ne {d p e : Nat} (h : e ≠ d) : ph_cnt d (p + 1) e = ph_cnt d p e := by
  unfold ph_cnt
  (repeat' split) <;> omega
theorem ph_cnt_s (d e : Nat) : ph_cnt d 3 e = ph_cnt (d + 1) 0 e := by
  unfold ph_cnt
  (repeat' split) <;> omega
def ph_W (wd : Nat → Nat → Nat) (d p : Nat) (s : St2) : Prop := ∃ oc a1 a2 a3 a4 a5 a6 a7 a8 a9, s = (nI 0, oc, a1, a2, a3, a4, a5, a6, a7, a8, a9) ∧ (∀ e, e < 6 → a1 e = nI (ph_cnt d p e)) ∧ (∀ e, e < 6 → ∀ x, x < 12 → a3 (e * 12 + x) = nI (ph_ms (wd e) x (ph_cnt d p e)))
theorem ph_Wnext {wd : Nat → Nat → Nat} {d : Nat} {s : St2} (h : ph_W wd d 3 s) : ph_W wd (d + 1) 0 s := by
  obtain ⟨oc, a1, a2, a3, a4, a5, a6, a7, a8, a9, e, h1, h2⟩ := h
  exact ⟨oc, a1, a2, a3, a4, a5, a6, a7, a8, a9, e, fun i hi => by rw [← ph_cnt_s]; exact h1 i hi, fun i hi x hx => by rw [← ph_cnt_s]; exact h2 i hi x hx⟩
theorem ph_write {wd : Nat → Nat → Nat} {d p : Nat} {s : St2} {post : Int32 → St2 → Prop} (hd : d < 3) (hp : p < 3) (hw : wd d p < 4) (hs : ph_W wd d p s)
    (H : ∀ s', ph_W wd d (p + 1) s' → post (nI p) s') : wpX_write post s (nI d) (nI (wd d p)) := by
  obtain ⟨oc, a1, a2, a3, a4, a5, a6, a7, a8, a9, rfl, hA, hB⟩ := hs
  have h1 : a1 d = nI p := by rw [hA d (by omega), ph_cnt_d]
  have h3 : a3 (d * 12 + wd d p) = nI (ph_ms (wd d) (wd d p) p) := by rw [hB d (by omega) _ (by omega), ph_cnt_d]
  have hm := ph_ms_lt (wd d) (wd d p) p
  have hm8 : ph_ms (wd d) (wd d p) p < 8 := by
    refine Nat.lt_of_lt_of_le hm ?_
    obtain rfl | rfl | rfl : p = 0 ∨ p = 1 ∨ p = 2 := by omega
    · decide
    · decide
    · decide
  have ems : ph_ms (wd d) (wd d p) (p + 1) = ph_ms (wd d) (wd d p) p + 2 ^ p := by
    show ph_ms (wd d) (wd d p) p + (if wd d p = wd d p then 2 ^ p else 0) = _
    rw [if_pos rfl]
  unfold wpX_write
  dsimp only
  refine ph_doc1 (by omega) (br_f (by decide) (ph_word1 (by omega) (br_f (by decide) ⟨pk_in d 6 (by omega), ?_⟩)))
  rw [nI_clamp (show d < 2 ^ 31 by omega), h1]
  refine pk_lt p 24 (fun _ => ⟨pk_in d 6 (by omega), nm_e ⟨pk_in (d * 24 + p) 144 (by omega) (ph_i24 d p), nm_e ⟨pk_in (d * 12 + wd d p) 72 (by omega) (ph_i12 d _), pk_in (d * 12 + wd d p) 72 (by omega) (ph_i12 d _), ?_⟩⟩⟩) (fun z => absurd z (by omega))
  rw [pk_cl (d * 12 + wd d p) (ph_i12 d _), h3, ph_or p hp _ hm8 hm, ← ems, nI_1, ph_b8 (p + 1) (by omega)]
  refine nm_e ⟨pk_in d 6 (by omega), pk_in d 6 (by omega), nm_e (H _ ⟨_, _, _, _, _, _, _, _, _, _, rfl, fun e he => ?_, fun e he x hx => ?_⟩)⟩
  · by_cases c : e = d
    · subst c; rw [pk_us, ph_cnt_d]
    · rw [pk_un c, hA e he, ph_cnt_ne c]
  · by_cases c : e = d
    · subst c
      rw [ph_cnt_d]
      by_cases c2 : x = wd e p
      · subst c2; exact pk_us
      · rw [pk_un (by omega), hB e he x hx, ph_cnt_d]
        show _ = nI (ph_ms (wd e) x p + (if wd e p = x then 2 ^ p else 0))
        rw [if_neg (fun z => c2 z.symm), Nat.add_zero]
    · rw [pk_un (by omega), hB e he x hx, ph_cnt_ne c]
section
variable {post : Int32 → St0 → Prop} {mc ms kc ks : Nat} {J30 : Int32 → Int32 → Int32 → Int32 → (Nat → Int32) → (Nat → Int32) → (Nat → Int32) → (Nat → Int32) → (Nat → Int32) → (Nat → Int32) → (Nat → Int32) → (Nat → Int32) → (Nat → Int32) → Prop} {x0 x5 x6 x7 : Int32}
theorem ph_l39 {wd : Nat → Nat → Nat} {d : Nat} {s : St2} (hd : d < 3) (hwd : ∀ p, p < 3 → (x0 >>> ((6 * nI d + 2 * nI p) &&& 31)) &&& 3 = nI (wd d p) ∧ wd d p < 4) (hs : ph_W wd d 0 s)
    (H : ∀ s : St2, ph_W wd (d + 1) 0 s → J30 1 (nI (d + 1)) s.1 s.2.1 s.2.2.1 s.2.2.2.1 s.2.2.2.2.1 s.2.2.2.2.2.1 s.2.2.2.2.2.2.1 s.2.2.2.2.2.2.2.1 s.2.2.2.2.2.2.2.2.1 s.2.2.2.2.2.2.2.2.2.1 s.2.2.2.2.2.2.2.2.2.2) :
    ∃ n, wL_lawOf_39 post mc ms J30 x0 x5 x6 x7 (nI d) kc ks n 1 0 s.1 s.2.1 s.2.2.1 s.2.2.2.1 s.2.2.2.2.1 s.2.2.2.2.2.1 s.2.2.2.2.2.2.1 s.2.2.2.2.2.2.2.1 s.2.2.2.2.2.2.2.2.1 s.2.2.2.2.2.2.2.2.2.1 s.2.2.2.2.2.2.2.2.2.2 := by
  refine pk_loop (fun n i (s : St2) => wL_lawOf_39 post mc ms J30 x0 x5 x6 x7 (nI d) kc ks n 1 (nI i) s.1 s.2.1 s.2.2.1 s.2.2.2.1 s.2.2.2.2.1 s.2.2.2.2.2.1 s.2.2.2.2.2.2.1 s.2.2.2.2.2.2.2.1 s.2.2.2.2.2.2.2.2.1 s.2.2.2.2.2.2.2.2.2.1 s.2.2.2.2.2.2.2.2.2.2) (fun i s => ph_W wd d i s) 3 0 s (by omega) hs
    (fun n s h => pk_le 3 3 (fun _ => nm_r (nI_1 d) (H s (ph_Wnext h))) (fun z => absurd z (by omega))) (fun n i s hi h hn => ?_)
  obtain ⟨bf, bo, b1, b2, b3, b4, b5, b6, b7, b8, b9⟩ := s
  refine pk_le 3 i (fun z => absurd z (by omega)) (fun _ => ?_)
  rw [(hwd i hi).1]
  refine ph_write hd hi (hwd i hi).2 h (fun s' h' => ?_)
  obtain ⟨cf, co, c1, c2, c3, c4, c5, c6, c7, c8, c9⟩ := s'
  exact br_f (by decide) (br_t rfl (nm_r (nI_1 i) (hn (cf, co, c1, c2, c3, c4, c5, c6, c7, c8, c9) h')))
end
end
section
/-! ===== the second loop of the law, one document ===== -/
section
variable {post : Int32 → St0 → Prop} {mc ms kc ks : Nat} {J : Int32 → Int32 → Int32 → Int32 → Int32 → Int32 → (Nat → Int32) → (Nat → Int32) → (Nat → Int32) → (Nat → Int32) → (Nat → Int32) → (Nat → Int32) → (Nat → Int32) → (Nat → Int32) → (Nat → Int32) → Prop} {x0 x5 x6 x7 x8 x13 x14 x16 x17 x18 x19 x20 x21 x22 z0 z1 : Int32} {u v w d : Nat} {q : Nat → Nat → Nat} {b1 b3 : Nat → Int32} {f oc : Int32} {a1 a2 a3 a4 a5 a6 a7 a8 a9 : Nat → Int32}
theorem ph_526 {nn : Nat} (hu : u < 4) (hv : v < 4) (hw : w < 4) (hd : d < 6) (hD : ph_D q b3) (hs : ph_S u v w 8 b1 b3 (f, oc, a1, a2, a3, a4, a5, a6, a7, a8, a9)) (hz : z1 = z0) (h3 : ph_sp (ph_E1 (q d w)) 24 = nI nn)
    (H : ∀ s : St2, ph_S u v w 8 b1 b3 s → J 1 x13 x14 (nI (d + 1)) s.1 s.2.1 s.2.2.1 s.2.2.2.1 s.2.2.2.2.1 s.2.2.2.2.2.1 s.2.2.2.2.2.2.1 s.2.2.2.2.2.2.2.1 s.2.2.2.2.2.2.2.2.1 s.2.2.2.2.2.2.2.2.2.1 s.2.2.2.2.2.2.2.2.2.2) :
    wL_lawOf_526 post mc ms J x0 x5 x6 x7 x13 x14 (nI d) (nI nn) z0 z1 kc ks f oc a1 a2 a3 a4 a5 a6 a7 a8 a9 := by
  unfold wL_lawOf_526
  refine br_t hz (ph_spans1 hu hv hw hd hD hs (fun s k => ?_))
  obtain ⟨cf, co, c1, c2, c3, c4, c5, c6, c7, c8, c9⟩ := s
  exact br_t h3 (nm_r (nI_1 d) (H (cf, co, c1, c2, c3, c4, c5, c6, c7, c8, c9) k))
theorem ph_504 {nn e1 : Nat} (hu : u < 4) (hv : v < 4) (hw : w < 4) (hd : d < 6) (hD : ph_D q b3) (hs : ph_S u v w 8 b1 b3 (f, oc, a1, a2, a3, a4, a5, a6, a7, a8, a9)) (hz : z1 = z0) (h3 : ph_sp (ph_E1 (q d w)) 24 = nI nn) (he1 : e1 < 100)
    (h4 : ph_fe (ph_E2 (q d u) (q d v) 0) 24 = if e1 = 0 then -1 else 1)
    (H : ∀ s : St2, ph_S u v w 8 b1 b3 s → J 1 x13 x14 (nI (d + 1)) s.1 s.2.1 s.2.2.1 s.2.2.2.1 s.2.2.2.2.1 s.2.2.2.2.2.1 s.2.2.2.2.2.2.1 s.2.2.2.2.2.2.2.1 s.2.2.2.2.2.2.2.2.1 s.2.2.2.2.2.2.2.2.2.1 s.2.2.2.2.2.2.2.2.2.2) :
    wL_lawOf_504 post mc ms J x0 x5 x6 x7 x13 x14 (nI d) (nI e1) (nI nn) z0 z1 kc ks f oc a1 a2 a3 a4 a5 a6 a7 a8 a9 := by
  unfold wL_lawOf_504
  refine br_t hz (ph_ends hu hv hw hd hD hs (fun s k => ?_))
  obtain ⟨cf, co, c1, c2, c3, c4, c5, c6, c7, c8, c9⟩ := s
  refine pk_eq e1 0 (fun z => ph_526 hu hv hw hd hD k ?_ h3 H) (fun z => ph_526 hu hv hw hd hD k ?_ h3 H)
  · rw [h4, if_pos z]
  · rw [h4, if_neg z]
theorem ph_481 {nn e1 e2 : Nat} {z2 : Int32} (hu : u < 4) (hv : v < 4) (hw : w < 4) (hd : d < 6) (hD : ph_D q b3) (hs : ph_S u v w 8 b1 b3 (f, oc, a1, a2, a3, a4, a5, a6, a7, a8, a9)) (hz : z2 = z1 + z0) (h3 : ph_sp (ph_E1 (q d w)) 24 = nI nn) (he1 : e1 < 100) (he2 : e2 < 100)
    (h4 : ph_fe (ph_E2 (q d u) (q d v) 0) 24 = if e1 = 0 then -1 else 1) (h5 : ph_fb (ph_E2 (q d u) (q d v)) 23 = if e2 = 0 then -1 else 1)
    (H : ∀ s : St2, ph_S u v w 8 b1 b3 s → J 1 x13 x14 (nI (d + 1)) s.1 s.2.1 s.2.2.1 s.2.2.2.1 s.2.2.2.2.1 s.2.2.2.2.2.1 s.2.2.2.2.2.2.1 s.2.2.2.2.2.2.2.1 s.2.2.2.2.2.2.2.2.1 s.2.2.2.2.2.2.2.2.2.1 s.2.2.2.2.2.2.2.2.2.2) :
    wL_lawOf_481 post mc ms J x0 x5 x6 x7 x13 x14 (nI d) (nI e1) (nI e2) (nI nn) z0 z1 z2 kc ks f oc a1 a2 a3 a4 a5 a6 a7 a8 a9 := by
  unfold wL_lawOf_481
  refine br_t hz (ph_begins hu hv hw hd hD hs (fun s k => ?_))
  obtain ⟨cf, co, c1, c2, c3, c4, c5, c6, c7, c8, c9⟩ := s
  refine pk_eq e2 0 (fun z => ph_504 hu hv hw hd hD k ?_ h3 he1 h4 H) (fun z => ph_504 hu hv hw hd hD k ?_ h3 he1 h4 H)
  · rw [h5, if_pos z]
  · rw [h5, if_neg z]
theorem ph_434 {nn e1 e2 on : Nat} (hu : u < 4) (hv : v < 4) (hw : w < 4) (hd : d < 6) (hD : ph_D q b3) (hs : ph_S u v w 8 b1 b3 (f, oc, a1, a2, a3, a4, a5, a6, a7, a8, a9)) (h1 : ph_hold (q d u) (q d v) (q d w) = nI on) (h2 : ph_sp (ph_E2 (q d u) (q d v)) 24 = nI (e1 + e2)) (h3 : ph_sp (ph_E1 (q d w)) 24 = nI nn) (he1 : e1 < 2) (he2 : e2 < 2)
    (h4 : ph_fe (ph_E2 (q d u) (q d v) 0) 24 = if e1 = 0 then -1 else 1) (h5 : ph_fb (ph_E2 (q d u) (q d v)) 23 = if e2 = 0 then -1 else 1)
    (H : ∀ s : St2, ph_S u v w 8 b1 b3 s → J 1 x13 z0 (nI (d + 1)) s.1 s.2.1 s.2.2.1 s.2.2.2.1 s.2.2.2.2.1 s.2.2.2.2.2.1 s.2.2.2.2.2.2.1 s.2.2.2.2.2.2.2.1 s.2.2.2.2.2.2.2.2.1 s.2.2.2.2.2.2.2.2.2.1 s.2.2.2.2.2.2.2.2.2.2) :
    wL_lawOf_434 post mc ms J x0 x5 x6 x7 1 x13 (nI d) (nI e1) (nI e2) (nI nn) (nI on) z0 kc ks f oc a1 a2 a3 a4 a5 a6 a7 a8 a9 := by
  unfold wL_lawOf_434
  refine br_f (by decide) (ph_holds hu hv hw hd hD hs (fun s k => ?_))
  obtain ⟨cf, co, c1, c2, c3, c4, c5, c6, c7, c8, c9⟩ := s
  refine br_t h1 (ph_spans0 hu hv hw hd hD k (fun s k => ?_))
  obtain ⟨gf, go, g1, g2, g3, g4, g5, g6, g7, g8, g9⟩ := s
  have key : ∀ y : Int32, y = nI e1 → wL_lawOf_471 post mc ms J x0 x5 x6 x7 x13 z0 (nI d) (nI e1) (nI e2) (nI nn) y (ph_sp (ph_E2 (q d u) (q d v)) 24) kc ks gf go g1 g2 g3 g4 g5 g6 g7 g8 g9 := by
    intro y hy
    unfold wL_lawOf_471
    refine pk_eq e2 0 (fun z => ph_481 hu hv hw hd hD k ?_ h3 (by omega) (by omega) h4 h5 H) (fun z => ph_481 hu hv hw hd hD k ?_ h3 (by omega) (by omega) h4 h5 H)
    · rw [h2, hy, z]; exact (nI_add e1 0).symm
    · rw [h2, hy, show e2 = 1 by omega]; exact (nI_add e1 1).symm
  refine pk_eq e1 0 (fun z => key 0 ?_) (fun z => key 1 ?_)
  · rw [z]; rfl
  · rw [show e1 = 1 by omega]; rfl
theorem ph_415 {nn : Nat} (hn : nn < 100) (H : wL_lawOf_434 post mc ms J x0 x5 x6 x7 x8 z0 (nI d) x19 x20 (nI nn) x22 (if nn = 0 then x14 else x14 ||| ((1 : Int32) <<< (nI d &&& 31))) kc ks f oc a1 a2 a3 a4 a5 a6 a7 a8 a9) :
    wL_lawOf_415 post mc ms J x0 x5 x6 x7 x8 x14 (nI d) x19 x20 (nI nn) x22 z0 kc ks f oc a1 a2 a3 a4 a5 a6 a7 a8 a9 := by
  refine pk_le nn 0 (fun z => ?_) (fun z => ?_)
  · rw [if_pos (by omega)] at H; exact H
  · rw [if_neg (by omega)] at H; exact H
theorem ph_396 {on : Nat} (hn : on < 100) (H : wL_lawOf_415 post mc ms J x0 x5 x6 x7 x8 x14 (nI d) x19 x20 x21 (nI on) (if on = 0 then x13 else x13 ||| ((1 : Int32) <<< (nI d &&& 31))) kc ks f oc a1 a2 a3 a4 a5 a6 a7 a8 a9) :
    wL_lawOf_396 post mc ms J x0 x5 x6 x7 x8 x13 x14 (nI d) x19 x20 x21 (nI on) kc ks f oc a1 a2 a3 a4 a5 a6 a7 a8 a9 := by
  refine pk_eq on 0 (fun z => ?_) (fun z => ?_)
  · rw [if_pos z] at H; exact H
  · rw [if_neg z] at H; exact H
theorem ph_373 {e1 e2 m3 m12 : Nat} (h1 : e1 < 100) (h2 : e2 < 100) (h3 : m3 < 100) (h12 : m12 < 100)
    (H : wL_lawOf_396 post mc ms J x0 x5 x6 x7 x8 x13 x14 (nI d) (nI e1) (nI e2) (nI (m12 + m3)) (nI (if (¬ e1 = 0 ∨ ¬ e2 = 0) ∧ m12 + m3 = 0 then 1 else 0)) kc ks f oc a1 a2 a3 a4 a5 a6 a7 a8 a9) :
    wL_lawOf_373 post mc ms J x0 x5 x6 x7 x8 x13 x14 (nI d) (nI e1) (nI e2) (nI m3) (nI m12) kc ks f oc a1 a2 a3 a4 a5 a6 a7 a8 a9 := by
  have h386 : (¬ e1 = 0 ∨ ¬ e2 = 0) → wL_lawOf_386 post mc ms J x0 x5 x6 x7 x8 x13 x14 (nI d) (nI e1) (nI e2) (nI (m12 + m3)) kc ks f oc a1 a2 a3 a4 a5 a6 a7 a8 a9 := by
    intro c
    refine pk_eq (m12 + m3) 0 (fun z => ?_) (fun z => ?_)
    · rw [if_pos ⟨c, z⟩] at H; exact H
    · rw [if_neg (fun k => z k.2)] at H; exact H
  unfold wL_lawOf_373
  refine nm_r (nI_add m12 m3) (pk_eq e1 0 (fun z1 => pk_eq e2 0 (fun z2 => ?_) (fun z2 => h386 (Or.inr z2))) (fun z1 => h386 (Or.inl z1)))
  rw [if_neg (fun k => k.1.elim (fun y => y z1) (fun y => y z2))] at H
  exact H
theorem ph_360 {c : Nat} (hc : c < 4) (hw : w < 4) (H : wL_lawOf_373 post mc ms J x0 x5 x6 (nI w) x8 x13 x14 (nI d) x19 x20 (nI (if c = w then 1 else 0)) (z1 + z0) kc ks f oc a1 a2 a3 a4 a5 a6 a7 a8 a9) :
    wL_lawOf_360 post mc ms J x0 x5 x6 (nI w) x8 x13 x14 (nI d) (nI c) x19 x20 z0 z1 kc ks f oc a1 a2 a3 a4 a5 a6 a7 a8 a9 := by
  refine pk_eq c w (fun z => ?_) (fun z => ?_)
  · rw [if_pos z] at H; exact H
  · rw [if_neg z] at H; exact H
theorem ph_348 {c : Nat} (hc : c < 4) (hw : w < 4) (H : wL_lawOf_360 post mc ms J x0 x5 x6 (nI w) x8 x13 x14 (nI d) x18 x19 x20 (nI (if c = w then 1 else 0)) z0 kc ks f oc a1 a2 a3 a4 a5 a6 a7 a8 a9) :
    wL_lawOf_348 post mc ms J x0 x5 x6 (nI w) x8 x13 x14 (nI d) (nI c) x18 x19 x20 z0 kc ks f oc a1 a2 a3 a4 a5 a6 a7 a8 a9 := by
  refine pk_eq c w (fun z => ?_) (fun z => ?_)
  · rw [if_pos z] at H; exact H
  · rw [if_neg z] at H; exact H
theorem ph_334 {c : Nat} (hc : c < 4) (hw : w < 4) (H : wL_lawOf_348 post mc ms J x0 x5 x6 (nI w) x8 x13 x14 (nI d) x17 x18 x19 z0 (nI (if c = w then 1 else 0)) kc ks f oc a1 a2 a3 a4 a5 a6 a7 a8 a9) :
    wL_lawOf_334 post mc ms J x0 x5 x6 (nI w) x8 x13 x14 (nI d) (nI c) x17 x18 x19 z0 kc ks f oc a1 a2 a3 a4 a5 a6 a7 a8 a9 := by
  refine pk_eq c w (fun z => ?_) (fun z => ?_)
  · rw [if_pos z] at H; exact H
  · rw [if_neg z] at H; exact H
theorem ph_313 {b c : Nat} (hb : b < 4) (hc : c < 4) (hu : u < 4) (hv : v < 4) (H : wL_lawOf_334 post mc ms J x0 (nI u) (nI v) x7 x8 x13 x14 (nI d) x16 (nI b) (nI c) z0 (nI (if b = u ∧ c = v then 1 else 0)) kc ks f oc a1 a2 a3 a4 a5 a6 a7 a8 a9) :
    wL_lawOf_313 post mc ms J x0 (nI u) (nI v) x7 x8 x13 x14 (nI d) x16 (nI b) (nI c) z0 kc ks f oc a1 a2 a3 a4 a5 a6 a7 a8 a9 := by
  refine pk_eq b u (fun z => pk_eq c v (fun y => ?_) (fun y => ?_)) (fun z => ?_)
  · rw [if_pos ⟨z, y⟩] at H; exact H
  · rw [if_neg (fun k => y k.2)] at H; exact H
  · rw [if_neg (fun k => z k.1)] at H; exact H
theorem ph_if {x b : Int32} {m : Nat} (hm : m < 100) : (x ||| (if nI m = 0 then 0 else b)) = if m = 0 then x else x ||| b := by
  by_cases h : m = 0
  · subst h
    rw [if_pos rfl, if_pos (show nI 0 = 0 from rfl), Int32.or_zero]
  · rw [if_neg h, if_neg (nI_ne0 (by omega) (by omega))]
theorem ph_ifN {x b : Int32} {m p : Nat} (h : m = 0 ↔ p = 0) : (if m = 0 then x else x ||| b) = (if p = 0 then x else x ||| b) := by
  simp only [h]
/-- one document: its three words a b c, its masks q -/
theorem ph_body {n : Nat} {g : Nat → Nat} (hu : u < 4) (hv : v < 4) (hw : w < 4) (hd : d < 3) (hD : ph_D q b3) (hq : ∀ x, q d x = ph_ms g x 3) (hg : ∀ i, i < 3 → g i < 4)
    (e0 : (x0 >>> ((6 * nI d) &&& 31)) &&& 3 = nI (g 0)) (e1 : (x0 >>> ((6 * nI d + 2) &&& 31)) &&& 3 = nI (g 1)) (e2 : (x0 >>> ((6 * nI d + 4) &&& 31)) &&& 3 = nI (g 2))
    (hs : ph_S u v w 8 b1 b3 (f, oc, a1, a2, a3, a4, a5, a6, a7, a8, a9))
    (H : ∀ s : St2, ph_S u v w 8 b1 b3 s → wL_lawOf_251 post mc ms x0 (nI u) (nI v) (nI w) kc ks n 1 (x13 ||| (if ph_hold (q d u) (q d v) (q d w) = 0 then 0 else ((1 : Int32) <<< (nI d &&& 31)))) (x14 ||| (if nI (q d w) = 0 then 0 else ((1 : Int32) <<< (nI d &&& 31)))) (nI (d + 1)) s.1 s.2.1 s.2.2.1 s.2.2.2.1 s.2.2.2.2.1 s.2.2.2.2.2.1 s.2.2.2.2.2.2.1 s.2.2.2.2.2.2.2.1 s.2.2.2.2.2.2.2.2.1 s.2.2.2.2.2.2.2.2.2.1 s.2.2.2.2.2.2.2.2.2.2) :
    wL_lawOf_251 post mc ms x0 (nI u) (nI v) (nI w) kc ks (n + 1) 1 x13 x14 (nI d) f oc a1 a2 a3 a4 a5 a6 a7 a8 a9 := by
  have l8 : ∀ x, q d x < 8 := fun x => by rw [hq x]; exact ph_ms_lt g x 3
  have g0 := hg 0 (by omega)
  have g1 := hg 1 (by omega)
  have g2 := hg 2 (by omega)
  have hA : ph_A (q d u) (q d v) = if g 0 = u ∧ g 1 = v then 1 else 0 := by rw [hq, hq]; exact ph_msA
  have hB : ph_B (q d u) (q d v) = if g 1 = u ∧ g 2 = v then 1 else 0 := by rw [hq, hq]; exact ph_msB
  have hN : ph_N (q d w) = (if g 0 = w then 1 else 0) + (if g 1 = w then 1 else 0) + (if g 2 = w then 1 else 0) := by rw [hq]; exact ph_msN
  have hN0 := ph_N0 (q d w) (l8 w)
  have t7 := ph_t7 (l8 u) (l8 v) (l8 w)
  have t2 := ph_t2 (l8 u) (l8 v)
  have t3 := ph_t3 (l8 u) (l8 v)
  have t4 := ph_t4 (l8 u) (l8 v)
  have t6 := ph_t6 _ (l8 w)
  rw [hA, hB] at t7 t2
  rw [hB] at t3
  rw [hA] at t4
  have t7' : ph_hold (q d u) (q d v) (q d w) = nI (if (¬ (if g 0 = u ∧ g 1 = v then 1 else 0) = 0 ∨ ¬ (if g 1 = u ∧ g 2 = v then 1 else 0) = 0) ∧ (if g 0 = w then 1 else 0) + (if g 1 = w then 1 else 0) + (if g 2 = w then 1 else 0) = 0 then 1 else 0) := by
    rw [t7]
    refine congrArg nI ?_
    rw [← hN]
    simp only [hN0]
  rw [hN] at t6
  have b01 : ∀ (P : Prop) (i : Decidable P), (if P then 1 else 0) < 2 := fun P i => by split <;> omega
  have body : wL_lawOf_313 post mc ms (wL_lawOf_251 post mc ms x0 (nI u) (nI v) (nI w) kc ks n) x0 (nI u) (nI v) (nI w) 1 x13 x14 (nI d) (nI (g 0)) (nI (g 1)) (nI (g 2)) (nI (if g 0 = u ∧ g 1 = v then 1 else 0)) kc ks f oc a1 a2 a3 a4 a5 a6 a7 a8 a9 := by
    refine ph_313 g1 g2 hu hv (ph_334 g0 hw (ph_348 g1 hw (ph_360 g2 hw ?_)))
    rw [nI_add]
    have k1 := b01 (g 0 = u ∧ g 1 = v) inferInstance
    have k2 := b01 (g 1 = u ∧ g 2 = v) inferInstance
    have k3 := b01 (g 0 = w) inferInstance
    have k4 := b01 (g 1 = w) inferInstance
    have k5 := b01 (g 2 = w) inferInstance
    refine ph_373 (by omega) (by omega) (by omega) (by omega) (ph_396 (Nat.lt_trans (b01 _ _) (by omega)) (ph_415 (by omega) (ph_434 hu hv hw (by omega) hD hs t7' t2 t6 k1 k2 t4 t3 (fun s k => ?_))))
    have r := H s k
    rw [t7', ph_if (Nat.lt_trans (b01 _ _) (by omega)), ph_if (Nat.lt_trans (l8 w) (by omega)), ← ph_ifN hN0, hN] at r
    exact r
  refine pk_le 3 d (fun z => absurd z (by omega)) (fun _ => nm_r e0 (nm_r e1 (nm_r e2 ?_)))
  refine pk_eq (g 0) u (fun z => pk_eq (g 1) v (fun y => ?_) (fun y => ?_)) (fun z => ?_)
  · rw [if_pos ⟨z, y⟩] at body; exact body
  · rw [if_neg (fun k => y k.2)] at body; exact body
  · rw [if_neg (fun k => z k.1)] at body; exact body
end
end
section
/-! ===== the law ===== -/
theorem ph_mt6 {h : Nat → Int32} (h3 : h 3 = 0) (h4 : h 4 = 0) (h5 : h 5 = 0) : ph_mt h 6 = ph_mt h 3 := by
  show ((ph_mt h 3 ||| (if h 3 = 0 then 0 else _)) ||| (if h 4 = 0 then 0 else _)) ||| (if h 5 = 0 then 0 else _) = _
  rw [if_pos h3, if_pos h4, if_pos h5, Int32.or_zero, Int32.or_zero, Int32.or_zero]
theorem ph_mtE {h k : Nat → Int32} (k0 : k 0 = 0) (k1 : k 1 = h 1) (k2 : k 2 = h 2) (k3 : k 3 = 0) (k4 : k 4 = 0) (k5 : k 5 = 0) : ph_mt k 6 = ph_mt h 3 &&& (-2) := by
  rw [ph_mt6 k3 k4 k5]
  simp only [ph_mt]
  rw [k0, k1, k2]
  by_cases h0 : h 0 = 0 <;> by_cases h1 : h 1 = 0 <;> by_cases h2 : h 2 = 0 <;> simp only [h0, h1, h2, if_true, if_false] <;> decide
theorem ph_h0 : ph_hold 0 0 0 = 0 := by decide +kernel
theorem ph_s0 : ph_sp (ph_E2 0 0) 24 = 0 := ph_t2 (by omega) (by omega)
theorem ph_complete8S {u v w : Nat} {a1 a3 : Nat → Int32} {s : St2} {post : Int32 → St2 → Prop} (hu : u < 4) (hv : v < 4) (hw : w < 4) (hs : ph_S u v w 8 a1 a3 s)
    (H : ∀ s', ph_S u v w 8 a1 a3 s' → post 1 s') : wpX_complete post s := by
  obtain ⟨oc, a2, a4, a5, a6, a7, a8, a9, rfl, hT⟩ := hs
  exact ph_complete8 hu hv hw hT (fun b5 b6 b7 _ _ => H _ ⟨_, _, _, _, _, _, _, _, rfl, hT⟩)
section
variable {post : Int32 → St0 → Prop} {mc ms kc ks : Nat} {x0 x13 : Int32} {u v w : Nat} {q wd : Nat → Nat → Nat} {b1 b3 : Nat → Int32} {f oc : Int32} {a1 a2 a3 a4 a5 a6 a7 a8 a9 : Nat → Int32}
theorem ph_608 (hP : post 1 ()) (hu : u < 4) (hv : v < 4) (hw : w < 4) (hD : ph_D q b3) (hq : ∀ d, 3 ≤ d → ∀ x, q d x = 0) (hs : ph_S u v w 8 b1 b3 (f, oc, a1, a2, a3, a4, a5, a6, a7, a8, a9)) (hx : x13 = ph_mt (fun d => ph_hold (q d u) (q d v) (q d w)) 3) :
    wL_lawOf_608 post mc ms (nI w) x13 1 kc ks f oc a1 a2 a3 a4 a5 a6 a7 a8 a9 := by
  unfold wL_lawOf_608
  refine ph_unask hs (fun s k1 => ?_)
  obtain ⟨cf, co, c1, c2, c3, c4, c5, c6, c7, c8, c9⟩ := s
  refine ph_erase k1 (fun n3 s hz hk k2 => ?_)
  obtain ⟨gf, go, g1, g2, g3, g4, g5, g6, g7, g8, g9⟩ := s
  refine ph_ask hu hv hw (n := 7) (by omega) rfl k2 (fun s k3 => ?_)
  obtain ⟨hf, ho, h1, h2, h3, h4, h5, h6, h7, h8, h9⟩ := s
  have hD' : ph_D (fun d x => if d = 0 then 0 else q d x) n3 := by
    intro d hd x hx
    by_cases e : d = 0
    · subst e
      rw [hz (0 * 12 + x) (by omega)]
      rfl
    · show _ = nI (if d = 0 then 0 else q d x)
      rw [if_neg e, hk _ (by omega)]
      exact hD d hd x hx
  refine br_f (by decide) (br_t rfl (br_f (by decide) (br_t rfl (ph_holds hu hv hw (d := 0) (by omega) hD' k3 (fun s k4 => ?_)))))
  obtain ⟨mf, mo, m1, m2, m3, m4, m5, m6, m7, m8, m9⟩ := s
  refine br_t ph_h0 (ph_length k4 (br_t pk_us (ph_matching hu hv hw hD' k4 (fun s k5 => ?_))))
  obtain ⟨jf, jo, j1, j2, j3, j4, j5, j6, j7, j8, j9⟩ := s
  refine br_t ?_ hP
  rw [hx]
  refine ph_mtE (h := fun d => ph_hold (q d u) (q d v) (q d w)) ph_h0 rfl rfl ?_ ?_ ?_
  · show ph_hold (q 3 u) (q 3 v) (q 3 w) = 0
    rw [hq 3 (by omega), hq 3 (by omega), hq 3 (by omega)]; exact ph_h0
  · show ph_hold (q 4 u) (q 4 v) (q 4 w) = 0
    rw [hq 4 (by omega), hq 4 (by omega), hq 4 (by omega)]; exact ph_h0
  · show ph_hold (q 5 u) (q 5 v) (q 5 w) = 0
    rw [hq 5 (by omega), hq 5 (by omega), hq 5 (by omega)]; exact ph_h0
theorem ph_l251 {s : St2} (hP : post 1 ()) (hu : u < 4) (hv : v < 4) (hw : w < 4) (hD : ph_D q b3) (hq : ∀ d, 3 ≤ d → ∀ x, q d x = 0) (hq3 : ∀ d, d < 3 → ∀ x, q d x = ph_ms (wd d) x 3)
    (hwd : ∀ d, d < 3 → ∀ p, p < 3 → (x0 >>> ((6 * nI d + 2 * nI p) &&& 31)) &&& 3 = nI (wd d p) ∧ wd d p < 4) (hs : ph_S u v w 8 b1 b3 s) :
    ∃ n, wL_lawOf_251 post mc ms x0 (nI u) (nI v) (nI w) kc ks n 1 0 0 0 s.1 s.2.1 s.2.2.1 s.2.2.2.1 s.2.2.2.2.1 s.2.2.2.2.2.1 s.2.2.2.2.2.2.1 s.2.2.2.2.2.2.2.1 s.2.2.2.2.2.2.2.2.1 s.2.2.2.2.2.2.2.2.2.1 s.2.2.2.2.2.2.2.2.2.2 := by
  refine pk_loop (fun n i (s : Int32 × Int32 × St2) => wL_lawOf_251 post mc ms x0 (nI u) (nI v) (nI w) kc ks n 1 s.1 s.2.1 (nI i) s.2.2.1 s.2.2.2.1 s.2.2.2.2.1 s.2.2.2.2.2.1 s.2.2.2.2.2.2.1 s.2.2.2.2.2.2.2.1 s.2.2.2.2.2.2.2.2.1 s.2.2.2.2.2.2.2.2.2.1 s.2.2.2.2.2.2.2.2.2.2.1 s.2.2.2.2.2.2.2.2.2.2.2.1 s.2.2.2.2.2.2.2.2.2.2.2.2)
    (fun i s => s.1 = ph_mt (fun d => ph_hold (q d u) (q d v) (q d w)) i ∧ s.2.1 = ph_mt (fun d => nI (q d w)) i ∧ ph_S u v w 8 b1 b3 s.2.2) 3 0 (0, 0, s) (by omega) ⟨rfl, rfl, hs⟩ (fun n s h => ?_) (fun n i s hi h hn => ?_)
  · obtain ⟨x, y, cf, co, c1, c2, c3, c4, c5, c6, c7, c8, c9⟩ := s
    obtain ⟨hx, hy, hs⟩ := h
    have hx : x = ph_mt (fun d => ph_hold (q d u) (q d v) (q d w)) 3 := hx
    have hy : y = ph_mt (fun d => nI (q d w)) 3 := hy
    have hs : ph_S u v w 8 b1 b3 (cf, co, c1, c2, c3, c4, c5, c6, c7, c8, c9) := hs
    have z : ∀ d, 3 ≤ d → ph_hold (q d u) (q d v) (q d w) = 0 := fun d hd => by rw [hq d hd, hq d hd, hq d hd]; exact ph_h0
    have z' : ∀ d, 3 ≤ d → nI (q d w) = 0 := fun d hd => by rw [hq d hd]; rfl
    have eM1 : ph_mt (fun d => ph_hold (q d u) (q d v) (q d w)) 6 = x := (ph_mt6 (h := fun d => ph_hold (q d u) (q d v) (q d w)) (z 3 (by omega)) (z 4 (by omega)) (z 5 (by omega))).trans hx.symm
    have eM2 : ph_mt (fun d => nI (q d w)) 6 = y := (ph_mt6 (h := fun d => nI (q d w)) (z' 3 (by omega)) (z' 4 (by omega)) (z' 5 (by omega))).trans hy.symm
    have eM5 : ph_sp (ph_E2 (q 5 u) (q 5 v)) 24 = 0 := by
      rw [hq 5 (by omega), hq 5 (by omega)]
      exact ph_s0
    refine pk_le 3 3 (fun _ => br_f (by decide) (ph_matching hu hv hw hD hs (fun s k1 => ?_))) (fun z => absurd z (by omega))
    obtain ⟨gf, go, g1, g2, g3, g4, g5, g6, g7, g8, g9⟩ := s
    refine br_t eM1 (ph_having hw hD k1 (br_t eM2 (ph_spans2 hu hv hw (d := 0) (by omega) hD k1 (fun s k2 => ?_))))
    obtain ⟨hf, ho, h1, h2, h3, h4, h5, h6, h7, h8, h9⟩ := s
    refine br_t rfl (ph_spans0 hu hv hw (d := 5) (by omega) hD k2 (fun s k3 => ?_))
    obtain ⟨mf, mo, m1, m2, m3, m4, m5, m6, m7, m8, m9⟩ := s
    exact br_t eM5 (ph_608 hP hu hv hw hD hq k3 hx)
  · obtain ⟨x, y, cf, co, c1, c2, c3, c4, c5, c6, c7, c8, c9⟩ := s
    obtain ⟨hx, hy, hs⟩ := h
    have hx : x = ph_mt (fun d => ph_hold (q d u) (q d v) (q d w)) i := hx
    have hy : y = ph_mt (fun d => nI (q d w)) i := hy
    have hs : ph_S u v w 8 b1 b3 (cf, co, c1, c2, c3, c4, c5, c6, c7, c8, c9) := hs
    have e0 := (hwd i hi 0 (by omega)).1
    have e1 := (hwd i hi 1 (by omega)).1
    have e2 := (hwd i hi 2 (by omega)).1
    rw [show (2 : Int32) * nI 0 = 0 from by decide, Int32.add_zero] at e0
    rw [show (2 : Int32) * nI 1 = 2 from by decide] at e1
    rw [show (2 : Int32) * nI 2 = 4 from by decide] at e2
    refine ph_body hu hv hw hi hD (hq3 i hi) (fun p hp => (hwd i hi p hp).2) e0 e1 e2 hs (fun s k => hn (_, _, s) ⟨?_, ?_, k⟩)
    · rw [hx]; rfl
    · rw [hy]; rfl
theorem ph_l30 {s : St2} (hP : post 1 ()) (hu : u < 4) (hv : v < 4) (hw : w < 4)
    (hwd : ∀ d, d < 3 → ∀ p, p < 3 → (x0 >>> ((6 * nI d + 2 * nI p) &&& 31)) &&& 3 = nI (wd d p) ∧ wd d p < 4) (hs : ph_W wd 0 0 s) :
    ∃ n, wL_lawOf_30 post mc ms x0 (nI u) (nI v) (nI w) kc ks n 1 0 s.1 s.2.1 s.2.2.1 s.2.2.2.1 s.2.2.2.2.1 s.2.2.2.2.2.1 s.2.2.2.2.2.2.1 s.2.2.2.2.2.2.2.1 s.2.2.2.2.2.2.2.2.1 s.2.2.2.2.2.2.2.2.2.1 s.2.2.2.2.2.2.2.2.2.2 := by
  refine pk_loop (fun n i (s : St2) => wL_lawOf_30 post mc ms x0 (nI u) (nI v) (nI w) kc ks n 1 (nI i) s.1 s.2.1 s.2.2.1 s.2.2.2.1 s.2.2.2.2.1 s.2.2.2.2.2.1 s.2.2.2.2.2.2.1 s.2.2.2.2.2.2.2.1 s.2.2.2.2.2.2.2.2.1 s.2.2.2.2.2.2.2.2.2.1 s.2.2.2.2.2.2.2.2.2.2) (fun i s => ph_W wd i 0 s) 3 0 s (by omega) hs (fun n s h => ?_) (fun n i s hi h hn => ?_)
  · obtain ⟨oc, a1, a2, a3, a4, a5, a6, a7, a8, a9, rfl, h1, h3⟩ := h
    have hD : ph_D (fun d x => ph_ms (wd d) x (ph_cnt 3 0 d)) a3 := h3
    have hq : ∀ d, 3 ≤ d → ∀ x, ph_ms (wd d) x (ph_cnt 3 0 d) = 0 := by
      intro d hd x
      have e : ph_cnt 3 0 d = 0 := by
        unfold ph_cnt
        (repeat' split) <;> omega
      rw [e]; rfl
    have hq3 : ∀ d, d < 3 → ∀ x, ph_ms (wd d) x (ph_cnt 3 0 d) = ph_ms (wd d) x 3 := by
      intro d hd x
      have e : ph_cnt 3 0 d = 3 := by
        unfold ph_cnt
        rw [if_pos hd]
      rw [e]
    have hs : ph_S u v w 0 a1 a3 (nI 0, oc, a1, a2, a3, a4, a5, a6, a7, a8, a9) := ⟨_, _, _, _, _, _, _, _, rfl, fun j hj => absurd hj (by omega)⟩
    refine pk_le 3 3 (fun _ => ?_) (fun z => absurd z (by omega))
    refine ph_ask hu hv hw (n := 0) (by omega) rfl hs (fun s k1 => ?_)
    obtain ⟨cf, co, c1, c2, c3, c4, c5, c6, c7, c8, c9⟩ := s
    refine ph_ask hu hv hw (n := 1) (by omega) rfl k1 (fun s k2 => ?_)
    obtain ⟨cf, co, c1, c2, c3, c4, c5, c6, c7, c8, c9⟩ := s
    refine ph_ask hu hv hw (n := 2) (by omega) rfl k2 (fun s k3 => ?_)
    obtain ⟨cf, co, c1, c2, c3, c4, c5, c6, c7, c8, c9⟩ := s
    refine ph_ask hu hv hw (n := 3) (by omega) rfl k3 (fun s k4 => ?_)
    obtain ⟨cf, co, c1, c2, c3, c4, c5, c6, c7, c8, c9⟩ := s
    refine ph_ask hu hv hw (n := 4) (by omega) rfl k4 (fun s k5 => ?_)
    obtain ⟨cf, co, c1, c2, c3, c4, c5, c6, c7, c8, c9⟩ := s
    refine ph_complete5 hu hv hw k5 (fun s k6 => ?_)
    obtain ⟨cf, co, c1, c2, c3, c4, c5, c6, c7, c8, c9⟩ := s
    refine ph_ask hu hv hw (n := 5) (by omega) rfl k6 (fun s k7 => ?_)
    obtain ⟨cf, co, c1, c2, c3, c4, c5, c6, c7, c8, c9⟩ := s
    refine ph_ask_no hu hv hw k7 (fun s k8 => ?_)
    obtain ⟨cf, co, c1, c2, c3, c4, c5, c6, c7, c8, c9⟩ := s
    refine ph_ask hu hv hw (n := 6) (by omega) rfl k8 (fun s k9 => ?_)
    obtain ⟨cf, co, c1, c2, c3, c4, c5, c6, c7, c8, c9⟩ := s
    refine ph_ask hu hv hw (n := 7) (by omega) rfl k9 (fun s k10 => ?_)
    obtain ⟨cf, co, c1, c2, c3, c4, c5, c6, c7, c8, c9⟩ := s
    refine ph_ask_full hu hv hw k10 (fun s k11 => ?_)
    obtain ⟨cf, co, c1, c2, c3, c4, c5, c6, c7, c8, c9⟩ := s
    refine br_f (by decide) (br_t rfl (br_t rfl (br_t rfl (br_t rfl (ph_complete8S hu hv hw k11 (fun s k12 => ?_))))))
    obtain ⟨cf, co, c1, c2, c3, c4, c5, c6, c7, c8, c9⟩ := s
    exact br_f (by decide) (ph_hasTokens hu hv hw k12 (br_t rfl (ph_l251 hP hu hv hw hD hq hq3 hwd k12)))
  · exact pk_le 3 i (fun z => absurd z (by omega)) (fun _ => ph_l39 hi (fun p hp => hwd i hi p hp) h (fun s' h' => hn s' h'))
end
theorem ph_lawOf {post : Int32 → St0 → Prop} {x0 x1 x2 x3 : Int32} (hP : post 1 ()) : wpL_lawOf post 10 585 () x0 x1 x2 x3 := by
  unfold wpL_lawOf
  refine ⟨by omega, by omega, 9, 574, by omega, by omega, ?_⟩
  unfold wpX_init
  refine ⟨by omega, by omega, by omega, by omega, by omega, by omega, by omega, by omega, by omega, by omega, by omega, by omega, by omega, by omega, by omega, by omega, by omega, by omega, ?_⟩
  obtain ⟨u, hu, eu⟩ := pk_andE x1 (m := 3) 2 (by decide)
  obtain ⟨v, hv, ev⟩ := pk_andE x2 (m := 3) 2 (by decide)
  obtain ⟨w, hw, ew⟩ := pk_andE x3 (m := 3) 2 (by decide)
  refine nm_r eu (nm_r ev (nm_r ew ?_))
  refine ph_l30 (s := (0, 0, (fun _ => 0), (fun _ => 0), (fun _ => 0), (fun _ => 0), (fun _ => 0), (fun _ => 0), (fun _ => 0), (fun _ => 0), (fun _ => 0))) (wd := fun d p => (x0 >>> ((6 * nI d + 2 * nI p) &&& 31)).toBitVec.toNat % 2 ^ 2) hP hu hv hw (fun d _ p _ => ⟨pk_and _ 2 (by decide), Nat.mod_lt _ (by decide)⟩) ?_
  refine ⟨_, _, _, _, _, _, _, _, _, _, rfl, fun e he => ?_, fun e he x hx => ?_⟩
  · have c : ph_cnt 0 0 e = 0 := by
      unfold ph_cnt
      (repeat' split) <;> omega
    rw [c]; rfl
  · have c : ph_cnt 0 0 e = 0 := by
      unfold ph_cnt
      (repeat' split) <;> omega
    rw [c]; rfl
theorem ph_cell {post : Int32 → Prop} {L : Nat} {xs : Nat → Int32} (hL : L ≤ 4) (k : Nat) (hk : k < 4) (H : ∀ x, post x) : wpL_cellAt post L xs () (nI k) :=
  pk_le L k (fun _ => H 0) (fun z => ⟨vp_in_nI z (by omega), H _⟩)
theorem i_vc (xs : Nat → Int32) (L : Nat) (hL : L ≤ 4) : wpL_law (fun r => r = 1) L xs := by
  unfold wpL_law
  exact ph_cell hL 0 (by omega) (fun x0 => ph_cell hL 1 (by omega) (fun x1 => ph_cell hL 2 (by omega) (fun x2 => ph_cell hL 3 (by omega) (fun x3 => ⟨10, 585, by omega, by omega, ph_lawOf rfl⟩))))
end
