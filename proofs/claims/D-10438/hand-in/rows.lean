section
/-! bits of an Int32: the family bt of BITS.to-paste (a starting text), then rows of my own -/
def bt (x : Int32) (i : Nat) : Bool := x.toBitVec.getLsbD i
theorem b_ext {x y : Int32} (h : ∀ i, i < 32 → bt x i = bt y i) : x = y := Int32.toBitVec_inj.mp (BitVec.eq_of_getLsbD_eq (fun i hi => h i hi))
theorem b_or (x y : Int32) (i : Nat) : bt (x ||| y) i = (bt x i || bt y i) := by unfold bt; rw [Int32.toBitVec_or, BitVec.getLsbD_or]
theorem b_and (x y : Int32) (i : Nat) : bt (x &&& y) i = (bt x i && bt y i) := by unfold bt; rw [Int32.toBitVec_and, BitVec.getLsbD_and]
theorem b_xor (x y : Int32) (i : Nat) : bt (x ^^^ y) i = (bt x i ^^ bt y i) := by unfold bt; rw [Int32.toBitVec_xor, BitVec.getLsbD_xor]
theorem b_big {x : Int32} {i : Nat} (h : 32 ≤ i) : bt x i = false := BitVec.getLsbD_of_ge _ _ h
theorem b_m1 : ∀ i, i < 32 → bt (-1) i = true := by decide +kernel
theorem b_0 (i : Nat) : bt 0 i = false := BitVec.getLsbD_zero
theorem s_l : ∀ n, n < 32 → ((nI n &&& 31).toBitVec.smod 32).toNat = n := by decide +kernel
theorem b_shl (n : Nat) (hn : n < 32) (x : Int32) {i : Nat} (hi : i < 32) : bt (x <<< (nI n &&& 31)) i = (decide (n ≤ i) && bt x (i - n)) := by
  unfold bt
  rw [Int32.toBitVec_shiftLeft]
  show (x.toBitVec <<< ((nI n &&& 31).toBitVec.smod 32).toNat).getLsbD i = _
  rw [s_l n hn, BitVec.getLsbD_shiftLeft]
  rcases Nat.lt_or_ge i n with h | h
  · simp [h, Nat.not_le.mpr h]
  · simp [hi, h, Nat.not_lt.mpr h]
theorem b_sshr (n : Nat) (hn : n < 32) (x : Int32) {i : Nat} (hi : i < 32) : bt (x >>> (nI n &&& 31)) i = if n + i < 32 then bt x (n + i) else bt x 31 := by
  unfold bt
  rw [Int32.toBitVec_shiftRight]
  show (x.toBitVec.sshiftRight ((nI n &&& 31).toBitVec.smod 32).toNat).getLsbD i = _
  rw [s_l n hn, BitVec.getLsbD_sshiftRight, BitVec.msb_eq_getLsbD_last]
  simp [hi]
/-! my own -/
theorem ww_b1 (i : Nat) : bt 1 i = decide (i = 0) := by
  rcases Nat.lt_or_ge i 32 with h | h
  · exact (by decide +kernel : ∀ i, i < 32 → bt 1 i = decide (i = 0)) i h
  · rw [b_big h, decide_eq_false (by omega)]
theorem ww_b63 (i : Nat) : bt 63 i = decide (i < 6) := by
  rcases Nat.lt_or_ge i 32 with h | h
  · exact (by decide +kernel : ∀ i, i < 32 → bt 63 i = decide (i < 6)) i h
  · rw [b_big h, decide_eq_false (by omega)]
theorem ww_one {b : Nat} (hb : b < 6) (i : Nat) : bt ((1 : Int32) <<< (nI b &&& 31)) i = decide (i = b) := by
  rcases Nat.lt_or_ge i 32 with h | h
  · rw [b_shl b (by omega) 1 h, ww_b1]
    by_cases e : i = b
    · subst e; simp
    · rcases Nat.lt_or_ge i b with g | g
      · simp [Nat.not_le.mpr g, e]
      · have : i - b ≠ 0 := by omega
        simp [this, e]
  · rw [b_big h, decide_eq_false (by omega)]
theorem ww_not {i : Nat} (x : Int32) (h : i < 32) : bt (x ^^^ (-1)) i = !bt x i := by
  rw [b_xor, b_m1 i h]; simp
/-- a set of blocks -/
def ww_sm (s : Int32) : Prop := ∀ i, 6 ≤ i → bt s i = false
theorem ww_sm_lt {s : Int32} (h : ww_sm s) {i : Nat} (hi : bt s i = true) : i < 6 := by
  rcases Nat.lt_or_ge i 6 with g | g
  · exact g
  · rw [h i g] at hi; exact absurd hi (by decide)
theorem ww_sm_0 : ww_sm 0 := fun i _ => b_0 i
theorem ww_sm_1 : ww_sm 1 := fun i h => by rw [ww_b1]; exact decide_eq_false (by omega)
theorem ww_sm_or {s t : Int32} (hs : ww_sm s) (ht : ww_sm t) : ww_sm (s ||| t) := fun i h => by rw [b_or, hs i h, ht i h]; rfl
theorem ww_sm_and {s t : Int32} (hs : ww_sm s) : ww_sm (s &&& t) := fun i h => by rw [b_and, hs i h]; rfl
theorem ww_sm_one {b : Nat} (hb : b < 6) : ww_sm ((1 : Int32) <<< (nI b &&& 31)) := fun i h => by rw [ww_one hb]; exact decide_eq_false (by omega)
theorem ww_ext {s t : Int32} (hs : ww_sm s) (ht : ww_sm t) (h : ∀ i, i < 6 → bt s i = bt t i) : s = t := b_ext (fun i _ => by
  rcases Nat.lt_or_ge i 6 with g | g
  · exact h i g
  · rw [hs i g, ht i g])
theorem ww_small {s : Int32} (hs : ww_sm s) : ∃ j : Nat, j < 64 ∧ s = nI j := by
  obtain ⟨j, hj, e⟩ := pk_andE s (m := 63) 6 (by decide)
  refine ⟨j, by omega, ?_⟩
  rw [← e]
  refine b_ext (fun i hi => ?_)
  rw [b_and, ww_b63]
  by_cases g : i < 6
  · simp [g]
  · rw [hs i (by omega)]; rfl
theorem ww_n16t : ∀ j, j < 64 → (nI j).toInt16.toInt32 = nI j := by decide +kernel
theorem ww_n16 {s : Int32} (hs : ww_sm s) : s.toInt16.toInt32 = s := by
  obtain ⟨j, hj, rfl⟩ := ww_small hs
  exact ww_n16t j hj
theorem ww_n8 : ∀ b, b < 6 → (nI b).toInt8.toInt32 = nI b := by decide +kernel
theorem ww_n8c : ∀ b, b < 64 → (nI b).toInt8.toInt32 = nI b := by decide +kernel
theorem ww_and1 (x : Int32) : x &&& 1 = nI (bt x 0).toNat := by
  cases h : bt x 0
  · refine b_ext (fun i _ => ?_)
    rw [b_and, ww_b1]
    show _ = bt 0 i
    rw [b_0]
    by_cases e : i = 0
    · subst e; rw [h]; rfl
    · simp [e]
  · refine b_ext (fun i _ => ?_)
    rw [b_and, ww_b1]
    show _ = bt 1 i
    rw [ww_b1]
    by_cases e : i = 0
    · subst e; rw [h]; rfl
    · simp [e]
theorem ww_bitN (s : Int32) {b : Nat} (hb : b < 6) : (s >>> (nI b &&& 31)) &&& 1 = nI (bt s b).toNat := by
  rw [ww_and1, b_sshr b (by omega) s (by omega)]
  rw [if_pos (by omega)]
  rfl
theorem ww_bit0 (s : Int32) {b : Nat} (hb : b < 6) : ((s >>> (nI b &&& 31)) &&& 1) = 0 ↔ bt s b = false := by
  rw [ww_bitN s hb]
  cases bt s b
  · exact ⟨fun _ => rfl, fun _ => rfl⟩
  · exact ⟨fun h => absurd h (by decide), fun h => absurd h (by decide)⟩
theorem ww_bit1 (s : Int32) {b : Nat} (hb : b < 6) : ((s >>> (nI b &&& 31)) &&& 1) = 1 ↔ bt s b = true := by
  rw [ww_bitN s hb]
  cases bt s b
  · exact ⟨fun h => absurd h (by decide), fun h => absurd h (by decide)⟩
  · exact ⟨fun _ => rfl, fun _ => rfl⟩
theorem ww_zero {s : Int32} (hs : ww_sm s) : s = 0 ↔ ∀ i, bt s i = false := by
  constructor
  · intro h i; rw [h]; exact b_0 i
  · intro h; exact ww_ext hs ww_sm_0 (fun i _ => by rw [h i, b_0])
theorem ww_nz {s : Int32} (hs : ww_sm s) (h : ¬ s = 0) : ∃ i, i < 6 ∧ bt s i = true := by
  by_cases g : ∃ i, i < 6 ∧ bt s i = true
  · exact g
  · refine absurd ((ww_zero hs).mpr (fun i => ?_)) h
    rcases Nat.lt_or_ge i 6 with k | k
    · cases e : bt s i
      · rfl
      · exact absurd ⟨i, k, e⟩ g
    · exact hs i k
theorem ww_ne0 {s : Int32} {i : Nat} (h : bt s i = true) : ¬ s = 0 := by
  intro e; rw [e, b_0] at h; exact absurd h (by decide)
/-- s lies within t -/
theorem ww_sub {s t : Int32} (hs : ww_sm s) : (s &&& (t ^^^ (-1))) = 0 ↔ ∀ i, bt s i = true → bt t i = true := by
  rw [ww_zero (ww_sm_and hs)]
  constructor
  · intro h i hi
    have h6 := ww_sm_lt hs hi
    have := h i
    rw [b_and, ww_not t (by omega), hi] at this
    simpa using this
  · intro h i
    rw [b_and]
    cases e : bt s i
    · rfl
    · have h6 := ww_sm_lt hs e
      rw [ww_not t (by omega), h i e]; rfl
/-- how many of the first n -/
def ww_cn (f : Nat → Bool) : Nat → Nat
  | 0 => 0
  | n + 1 => ww_cn f n + (f n).toNat
theorem ww_cn_le (f : Nat → Bool) (n : Nat) : ww_cn f n ≤ n := by
  induction n with
  | zero => exact Nat.le_refl 0
  | succ n ih =>
    show ww_cn f n + (f n).toNat ≤ n + 1
    have := Bool.toNat_le (f n)
    omega
theorem ww_cn_mono {f g : Nat → Bool} {n : Nat} (h : ∀ i, i < n → f i = true → g i = true) : ww_cn f n ≤ ww_cn g n := by
  induction n with
  | zero => exact Nat.le_refl 0
  | succ n ih =>
    show ww_cn f n + (f n).toNat ≤ ww_cn g n + (g n).toNat
    have := ih (fun i hi => h i (by omega))
    have h2 : (f n).toNat ≤ (g n).toNat := by
      cases e : f n
      · exact Nat.zero_le _
      · rw [h n (by omega) e]; exact Nat.le_refl _
    omega
theorem ww_cn_lt {f g : Nat → Bool} {n i : Nat} (h : ∀ i, i < n → f i = true → g i = true) (hi : i < n) (hf : f i = false) (hg : g i = true) : ww_cn f n < ww_cn g n := by
  induction n with
  | zero => omega
  | succ n ih =>
    show ww_cn f n + (f n).toNat < ww_cn g n + (g n).toNat
    by_cases e : i = n
    · have := ww_cn_mono (n := n) (fun i hi => h i (by omega))
      subst e
      rw [hf, hg]
      show ww_cn f i + 0 < ww_cn g i + 1
      omega
    · have := ih (fun i hi => h i (by omega)) (by omega)
      have h2 : (f n).toNat ≤ (g n).toNat := by
        cases e : f n
        · exact Nat.zero_le _
        · rw [h n (by omega) e]; exact Nat.le_refl _
      omega
theorem ww_cn_eq {f g : Nat → Bool} {n : Nat} (h : ∀ i, i < n → f i = true → g i = true) (e : ww_cn f n = ww_cn g n) {i : Nat} (hi : i < n) (hg : g i = true) : f i = true := by
  cases hf : f i
  · have := ww_cn_lt h hi hf hg; omega
  · rfl
theorem ww_cn_cong {f g : Nat → Bool} {n : Nat} (h : ∀ i, i < n → f i = g i) : ww_cn f n = ww_cn g n := by
  induction n with
  | zero => rfl
  | succ n ih =>
    show ww_cn f n + (f n).toNat = ww_cn g n + (g n).toNat
    rw [ih (fun i hi => h i (by omega)), h n (by omega)]
/-- one more -/
theorem ww_cn_add {f g : Nat → Bool} {n b : Nat} (hb : b < n) (hf : f b = false) (hg : g b = true) (h : ∀ i, i < n → i ≠ b → g i = f i) : ww_cn g n = ww_cn f n + 1 := by
  induction n with
  | zero => omega
  | succ n ih =>
    show ww_cn g n + (g n).toNat = ww_cn f n + (f n).toNat + 1
    by_cases e : b = n
    · subst e
      rw [hf, hg, ww_cn_cong (f := g) (g := f) (fun i hi => h i (by omega) (by omega))]
      rfl
    · rw [ih (by omega) (fun i hi => h i (by omega)), h n (by omega) (by omega)]
      omega
theorem ww_cn_room {f : Nat → Bool} {n b : Nat} (hb : b < n) (hf : f b = false) : ww_cn f n < n := by
  have := ww_cn_lt (f := f) (g := fun _ => true) (n := n) (fun _ _ _ => rfl) hb hf rfl
  have := ww_cn_le (fun _ => true) n
  omega
theorem ww_cn_pos {f : Nat → Bool} {n b : Nat} (hb : b < n) (hf : f b = true) : 0 < ww_cn f n := by
  have := ww_cn_lt (f := fun _ => false) (g := f) (n := n) (i := b) (fun _ _ h => absurd h (by decide)) hb rfl hf
  omega
theorem ww_cn_or {s : Int32} {b : Nat} (hb : b < 6) (h : bt s b = false) : ww_cn (bt (s ||| (1 : Int32) <<< (nI b &&& 31))) 6 = ww_cn (bt s) 6 + 1 :=
  ww_cn_add hb h (by rw [b_or, ww_one hb]; simp) (fun i _ hi => by rw [b_or, ww_one hb]; simp [hi])
/-! the for-loop -/
def ww_it {σ : Type} (f : Nat → σ → σ) : Nat → Nat → σ → σ
  | _, 0, s => s
  | i, k + 1, s => ww_it f (i + 1) k (f i s)
theorem ww_ind {σ : Type} (I : Nat → σ → Prop) (f : Nat → σ → σ) (e : Nat) (hI : ∀ i s, i < e → I i s → I (i + 1) (f i s)) : ∀ k i s, i + k = e → I i s → I e (ww_it f i k s) := by
  intro k
  induction k with
  | zero => intro i s he h; have : i = e := by omega
            rw [← this]; exact h
  | succ k ih => intro i s he h; exact ih (i + 1) (f i s) (by omega) (hI i s (by omega) h)
theorem ww_ind2 {σ : Type} (I : Nat → σ → Prop) (f : Nat → σ → σ) (b e : Nat) (hI : ∀ i s, b ≤ i → i < e → I i s → I (i + 1) (f i s)) : ∀ k i s, b ≤ i → i + k = e → I i s → I e (ww_it f i k s) := by
  intro k
  induction k with
  | zero => intro i s hb he h; have : i = e := by omega
            rw [← this]; exact h
  | succ k ih => intro i s hb he h; exact ih (i + 1) (f i s) (by omega) (by omega) (hI i s hb (by omega) h)
theorem ww_rel {σ τ : Type} (R : σ → τ → Prop) (f : Nat → σ → σ) (g : Nat → τ → τ) (e : Nat) (h : ∀ i s t, i < e → R s t → R (f i s) (g i t)) : ∀ k i s t, i + k = e → R s t → R (ww_it f i k s) (ww_it g i k t) := by
  intro k
  induction k with
  | zero => intro i s t _ h; exact h
  | succ k ih => intro i s t he r; exact ih (i + 1) _ _ (by omega) (h i s t (by omega) r)
/-- the walk of a counted loop: the printed loop W does what f does -/
theorem ww_loop {σ : Type} (W : Nat → Nat → σ → Prop) (f : Nat → σ → σ) (I : Nat → σ → Prop) (e : Nat) (Q : σ → Prop)
    (hI : ∀ i s, i < e → I i s → I (i + 1) (f i s))
    (hx : ∀ n s, I e s → Q s → W (n + 1) e s)
    (hs : ∀ n i s, i < e → I i s → W n (i + 1) (f i s) → W (n + 1) i s) : ∀ k i s, i + k = e → I i s → Q (ww_it f i k s) → ∃ n, W n i s := by
  have main : ∀ k i s, i + k = e → I i s → Q (ww_it f i k s) → W (k + 1) i s := by
    intro k
    induction k with
    | zero =>
      intro i s he h q
      have : i = e := by omega
      rw [this]
      exact hx 0 s (this ▸ h) q
    | succ k ih =>
      intro i s he h q
      exact hs (k + 1) i s (by omega) h (ih (i + 1) (f i s) (by omega) (hI i s (by omega) h) q)
  exact fun k i s he h q => ⟨k + 1, main k i s he h q⟩
/-- the same with no invariant -/
theorem ww_lop {σ : Type} (W : Nat → Nat → σ → Prop) (f : Nat → σ → σ) (e : Nat) (Q : σ → Prop)
    (hx : ∀ n s, Q s → W (n + 1) e s)
    (hs : ∀ n i s, i < e → W n (i + 1) (f i s) → W (n + 1) i s) (k i : Nat) (s : σ) (he : i + k = e) (q : Q (ww_it f i k s)) : ∃ n, W n i s :=
  ww_loop W f (fun _ _ => True) e Q (fun _ _ _ _ => trivial) (fun n s _ => hx n s) (fun n i s hi _ => hs n i s hi) k i s he trivial q
/-- a loop that grows what is bounded ends in a place where it does nothing -/
theorem ww_fix {σ : Type} (f : σ → σ) (P : σ → Prop) (μ : σ → Nat) (N : Nat) (hP : ∀ s, P s → P (f s)) (hN : ∀ s, P s → μ s ≤ N) (hg : ∀ s, P s → f s = s ∨ μ s < μ (f s)) :
    ∀ k i s, P s → N < μ s + k → f (ww_it (fun _ x => f x) i k s) = ww_it (fun _ x => f x) i k s := by
  intro k
  induction k with
  | zero => intro i s hp h; have := hN s hp; omega
  | succ k ih =>
    intro i s hp h
    show f (ww_it (fun _ x => f x) (i + 1) k (f s)) = ww_it (fun _ x => f x) (i + 1) k (f s)
    rcases hg s hp with e | g
    · have stay : ∀ k i, ww_it (fun _ x => f x) i k s = s := by
        intro k
        induction k with
        | zero => intro i; rfl
        | succ k ih2 => intro i; show ww_it (fun _ x => f x) (i + 1) k (f s) = s; rw [e]; exact ih2 (i + 1)
      rw [e, stay k (i + 1), e]
    · exact ih (i + 1) (f s) (hP s hp) (by omega)
/-- what is done again and again keeps P -/
theorem ww_keep {σ : Type} (f : Nat → σ → σ) (P : σ → Prop) (e : Nat) (hP : ∀ i s, i < e → P s → P (f i s)) (k i : Nat) (s : σ) (he : i + k = e) (h : P s) : P (ww_it f i k s) :=
  ww_ind (fun _ s => P s) f e hP k i s he h
theorem ww_nf {x : Bool} (h : ¬ x = true) : x = false := by cases x; rfl; exact absurd rfl h
theorem ww_ft {x : Bool} (h : x = false) : ¬ x = true := by rw [h]; decide
theorem ww_updSelf (f : Nat → Int32) (k : Nat) {v : Int32} (h : v = f k) : upd f k v = f := by
  funext j
  by_cases e : j = k
  · rw [e, pk_us, h]
  · rw [pk_un e]
theorem ww_in {A B : Prop} {s : Int32} {b : Nat} (hb : b < 6) (h0 : bt s b = false → A) (h1 : bt s b = true → B) : wpX_in (fun r => (r = 0 → A) ∧ (¬ r = 0 → B)) () s (nI b) :=
  br_c (fun h => br_t rfl (h0 ((ww_bit0 s hb).mp h))) (fun h => br_f (by decide) (h1 (by
    cases e : bt s b
    · exact absurd ((ww_bit0 s hb).mpr e) h
    · rfl)))
end
section
/-! what the methods compute, as functions -/
def ww_live1 (nx : Nat → Int32) (a : Nat) (l : Int32) : Int32 := if bt l a = true then l ||| nx a else l
def ww_liveR (nx : Nat → Int32) (l : Int32) : Int32 := ww_it (ww_live1 nx) 0 6 l
def ww_liveF (nx : Nat → Int32) : Int32 := ww_it (fun _ l => ww_liveR nx l) 0 6 1
def ww_meet1 (lv : Int32) (nx dm : Nat → Int32) (b a : Nat) (s : Int32) : Int32 := if bt lv a = true ∧ bt (nx a) b = true then s &&& dm a else s
def ww_meetF (lv : Int32) (nx dm : Nat → Int32) (b : Nat) : Int32 := ww_it (ww_meet1 lv nx dm b) 0 6 lv
def ww_dom1 (lv : Int32) (nx : Nat → Int32) (b : Nat) (dm : Nat → Int32) : Nat → Int32 :=
  if bt lv b = true then upd dm b ((ww_meetF lv nx dm b ||| ((1 : Int32) <<< (nI b &&& 31))).toInt16.toInt32) else dm
def ww_domR (lv : Int32) (nx dm : Nat → Int32) : Nat → Int32 := ww_it (ww_dom1 lv nx) 1 5 dm
def ww_dom0 (lv : Int32) (b : Nat) (dm : Nat → Int32) : Nat → Int32 := upd dm b (if bt lv b = true then lv.toInt16.toInt32 else (0 : Int32).toInt16.toInt32)
def ww_domI (lv : Int32) (dm : Nat → Int32) : Nat → Int32 := upd (ww_it (ww_dom0 lv) 0 6 dm) 0 1
def ww_domF (lv : Int32) (nx dm : Nat → Int32) : Nat → Int32 := ww_it (fun _ d => ww_domR lv nx d) 0 36 (ww_domI lv dm)
def ww_sp0 (b : Nat) (p : (Nat → Int32) × (Nat → Int32)) : (Nat → Int32) × (Nat → Int32) := (upd p.1 b 0, upd p.2 b 0)
def ww_sp1 (lv : Int32) (nx dm : Nat → Int32) (a b : Nat) (p : (Nat → Int32) × (Nat → Int32)) : (Nat → Int32) × (Nat → Int32) :=
  if bt lv a = true ∧ bt (nx a) b = true then
    (if bt (dm a) b = true then (p.1, upd p.2 b ((p.2 b ||| ((1 : Int32) <<< (nI a &&& 31))).toInt16.toInt32))
     else (upd p.1 a ((p.1 a ||| ((1 : Int32) <<< (nI b &&& 31))).toInt16.toInt32), p.2))
  else p
def ww_sp2 (lv : Int32) (nx dm : Nat → Int32) (a : Nat) (p : (Nat → Int32) × (Nat → Int32)) : (Nat → Int32) × (Nat → Int32) := ww_it (ww_sp1 lv nx dm a) 0 6 p
def ww_spF (lv : Int32) (nx dm : Nat → Int32) (p : (Nat → Int32) × (Nat → Int32)) : (Nat → Int32) × (Nat → Int32) := ww_it (ww_sp2 lv nx dm) 0 6 (ww_it ww_sp0 0 6 p)
def ww_bef1 (fw : Nat → Int32) (b a : Nat) (s : Int32) : Int32 := if bt (fw a) b = true then s ||| ((1 : Int32) <<< (nI a &&& 31)) else s
def ww_befF (fw : Nat → Int32) (b : Nat) : Int32 := ww_it (ww_bef1 fw b) 0 6 0
/-- listed, ordered, order -/
def ww_so1 (lv : Int32) (fw : Nat → Int32) (b : Nat) (s : Int32 × Nat × (Nat → Int32)) : Int32 × Nat × (Nat → Int32) :=
  if bt lv b = true ∧ bt s.1 b = false ∧ (ww_befF fw b &&& (s.1 ^^^ (-1))) = 0 then (s.1 ||| ((1 : Int32) <<< (nI b &&& 31)), s.2.1 + 1, upd s.2.2 s.2.1 (nI b).toInt8.toInt32) else s
def ww_soF (lv : Int32) (fw od : Nat → Int32) : Int32 × Nat × (Nat → Int32) := ww_it (fun _ s => ww_it (ww_so1 lv fw) 0 6 s) 0 6 (0, 0, od)
def ww_sz (s : Int32) : Nat := ww_cn (bt s) 6
def ww_lh1 (lp : Nat → Int32) (z h : Nat) (s : Nat × (Nat → Int32)) : Nat × (Nat → Int32) :=
  if ¬ lp h = 0 ∧ ww_sz (lp h) = z then (s.1 + 1, upd s.2 s.1 (nI h).toInt8.toInt32) else s
def ww_lhF (lp hd : Nat → Int32) : Nat × (Nat → Int32) := ww_it (fun z s => ww_it (ww_lh1 lp z) 0 6 s) 1 6 (0, hd)
def ww_lo1 (lv : Int32) (nx : Nat → Int32) (h a : Nat) (s : Int32) : Int32 :=
  if bt lv a = true ∧ ¬ ((nx a &&& s) &&& (((1 : Int32) <<< (nI h &&& 31)) ^^^ (-1))) = 0 then s ||| ((1 : Int32) <<< (nI a &&& 31)) else s
def ww_loR (lv : Int32) (nx : Nat → Int32) (h : Nat) (s : Int32) : Int32 := ww_it (ww_lo1 lv nx h) 0 6 s
def ww_loF (lv : Int32) (nx bk : Nat → Int32) (h : Nat) : Int32 := if bk h = 0 then 0 else ww_it (fun _ s => ww_loR lv nx h s) 0 6 (bk h ||| ((1 : Int32) <<< (nI h &&& 31)))
def ww_lps (lv : Int32) (nx bk lp : Nat → Int32) : Nat → Int32 := ww_it (fun h l => upd l h (ww_loF lv nx bk h).toInt16.toInt32) 0 6 lp
/-! the shape's facts -/
def ww_S1 (lv : Int32) (nx : Nat → Int32) : Prop :=
  ww_sm lv ∧ bt lv 0 = true ∧ (∀ a b, bt lv a = true → bt (nx a) b = true → bt lv b = true) ∧
  (∀ S : Nat → Prop, S 0 → (∀ a b, bt lv a = true → S a → bt (nx a) b = true → S b) → ∀ b, bt lv b = true → S b)
def ww_S2 (lv : Int32) (nx dm : Nat → Int32) : Prop :=
  (∀ b, b < 6 → ww_sm (dm b)) ∧ (∀ b, b < 6 → bt lv b = false → dm b = 0) ∧ dm 0 = 1 ∧
  (∀ b u, b < 6 → bt (dm b) u = true → bt lv u = true) ∧
  (∀ b, bt lv b = true → bt (dm b) b = true ∧ bt (dm b) 0 = true) ∧
  (∀ a b u, b ≠ 0 → bt lv a = true → bt (nx a) b = true → bt (dm b) u = true → u = b ∨ bt (dm a) u = true) ∧
  (∀ X : Nat → Nat → Prop, (∀ u, X 0 u → u = 0) → (∀ b u, X b u → bt lv u = true) → (∀ a b u, b ≠ 0 → bt lv a = true → bt (nx a) b = true → X b u → u = b ∨ X a u) → ∀ b u, bt lv b = true → X b u → bt (dm b) u = true)
def ww_S3 (lv : Int32) (nx dm fw bk : Nat → Int32) : Prop :=
  (∀ a, a < 6 → ww_sm (fw a)) ∧ (∀ a, a < 6 → ww_sm (bk a)) ∧
  (∀ a b, a < 6 → (bt (fw a) b = true ↔ bt lv a = true ∧ bt (nx a) b = true ∧ bt (dm a) b = false)) ∧
  (∀ a b, b < 6 → (bt (bk b) a = true ↔ bt lv a = true ∧ bt (nx a) b = true ∧ bt (dm a) b = true))
def ww_S4 (lv : Int32) (nx bk lp : Nat → Int32) : Prop :=
  (∀ h, h < 6 → ww_sm (lp h)) ∧ (∀ h, h < 6 → bk h = 0 → lp h = 0) ∧
  (∀ h, h < 6 → ¬ bk h = 0 → bt (lp h) h = true ∧ (∀ a, bt (bk h) a = true → bt (lp h) a = true) ∧
    (∀ a c, bt lv a = true → bt (nx a) c = true → bt (lp h) c = true → c ≠ h → bt (lp h) a = true) ∧
    (∀ S : Nat → Prop, S h → (∀ a, bt (bk h) a = true → S a) → (∀ a c, bt lv a = true → bt (nx a) c = true → S c → c ≠ h → S a) → ∀ u, bt (lp h) u = true → S u))
def ww_S5 (lv : Int32) (fw od : Nat → Int32) (n : Nat) : Prop :=
  (∀ k, k < n → ∃ b, b < 6 ∧ od k = nI b ∧ bt lv b = true) ∧
  (∀ j k, j < n → k < n → od j = od k → j = k) ∧
  (∀ k a, k < n → a < 6 → bt (fw a) (od k).toNatClampNeg = true → ∃ j, j < k ∧ od j = nI a) ∧
  n ≤ 6 ∧ (n = ww_sz lv → ∀ b, bt lv b = true → ∃ k, k < n ∧ od k = nI b)
def ww_S6 (lp hd : Nat → Int32) (m : Nat) : Prop :=
  (∀ k, k < m → ∃ h, h < 6 ∧ hd k = nI h ∧ ¬ lp h = 0) ∧
  (∀ h, h < 6 → ¬ lp h = 0 → ∃ k, k < m ∧ hd k = nI h) ∧
  (∀ j k, j < k → k < m → ww_sz (lp (hd j).toNatClampNeg) ≤ ww_sz (lp (hd k).toNatClampNeg)) ∧ m ≤ 6
end
section
/-! live blocks -/
theorem ww_live1_mono (nx : Nat → Int32) (a : Nat) (l : Int32) {i : Nat} (h : bt l i = true) : bt (ww_live1 nx a l) i = true := by
  unfold ww_live1
  by_cases e : bt l a = true
  · rw [if_pos e, b_or, h]; rfl
  · rw [if_neg e]; exact h
theorem ww_live1_sm {nx : Nat → Int32} (hn : ∀ a, a < 6 → ww_sm (nx a)) {a : Nat} (ha : a < 6) {l : Int32} (h : ww_sm l) : ww_sm (ww_live1 nx a l) := by
  unfold ww_live1
  by_cases e : bt l a = true
  · rw [if_pos e]; exact ww_sm_or h (hn a ha)
  · rw [if_neg e]; exact h
/-- a loop over sets that only adds, and ends where it began, did nothing at any step -/
theorem ww_stay {f : Nat → Int32 → Int32} (hm : ∀ a l i, bt l i = true → bt (f a l) i = true) (hs : ∀ a l, a < 6 → ww_sm l → ww_sm (f a l)) :
    ∀ k i s, i + k = 6 → ww_sm s → (∀ j, bt (ww_it f i k s) j = true → bt s j = true) → ∀ a, i ≤ a → a < 6 → f a s = s := by
  have grow : ∀ k i s j, bt s j = true → bt (ww_it f i k s) j = true := by
    intro k
    induction k with
    | zero => intro i s j h; exact h
    | succ k ih => intro i s j h; exact ih (i + 1) (f i s) j (hm i s j h)
  intro k
  induction k with
  | zero => intro i s he _ _ a h1 h2; omega
  | succ k ih =>
    intro i s he hsm h a h1 h2
    have e : f i s = s := by
      refine ww_ext (hs i s (by omega) hsm) hsm (fun j _ => ?_)
      cases g : bt s j
      · cases g2 : bt (f i s) j
        · rfl
        · have := h j (grow k (i + 1) (f i s) j g2)
          rw [g] at this; exact absurd this (by decide)
      · exact hm i s j g
    by_cases ea : a = i
    · rw [ea]; exact e
    · have h' : ∀ j, bt (ww_it f (i + 1) k s) j = true → bt s j = true := by
        intro j hj
        refine h j ?_
        show bt (ww_it f (i + 1) k (f i s)) j = true
        rw [e]; exact hj
      exact ih (i + 1) s (by omega) hsm h' a (by omega) h2
/-- a round that only adds: it does nothing, or the set is larger -/
theorem ww_roundG {f : Nat → Int32 → Int32} (hm : ∀ a l i, bt l i = true → bt (f a l) i = true) (hs : ∀ a l, a < 6 → ww_sm l → ww_sm (f a l)) {s : Int32} (h : ww_sm s) :
    ww_sm (ww_it f 0 6 s) ∧ (∀ i, bt s i = true → bt (ww_it f 0 6 s) i = true) ∧ (ww_it f 0 6 s = s ∨ ww_sz s < ww_sz (ww_it f 0 6 s)) := by
  have h1 : ww_sm (ww_it f 0 6 s) := ww_keep f ww_sm 6 (fun i s hi h => hs i s hi h) 6 0 s rfl h
  have h2 : ∀ i, bt s i = true → bt (ww_it f 0 6 s) i = true := fun i hi => ww_keep f (fun s => bt s i = true) 6 (fun a s _ h => hm a s i h) 6 0 s rfl hi
  refine ⟨h1, h2, ?_⟩
  by_cases e : ww_it f 0 6 s = s
  · exact Or.inl e
  · refine Or.inr ?_
    have : ∃ i, i < 6 ∧ bt s i = false ∧ bt (ww_it f 0 6 s) i = true := by
      by_cases g : ∃ i, i < 6 ∧ bt s i = false ∧ bt (ww_it f 0 6 s) i = true
      · exact g
      · refine absurd (ww_ext h1 h (fun i hi => ?_)) e
        cases g1 : bt s i
        · cases g2 : bt (ww_it f 0 6 s) i
          · rfl
          · exact absurd ⟨i, hi, g1, g2⟩ g
        · exact h2 i g1
    obtain ⟨i, hi, g1, g2⟩ := this
    exact ww_cn_lt (fun i _ => h2 i) hi g1 g2
/-- six rounds from a set that is not empty: closed -/
theorem ww_closed {f : Nat → Int32 → Int32} (hm : ∀ a l i, bt l i = true → bt (f a l) i = true) (hs : ∀ a l, a < 6 → ww_sm l → ww_sm (f a l)) {s : Int32} (h : ww_sm s) {b : Nat} (hb : bt s b = true) :
    ww_sm (ww_it (fun _ x => ww_it f 0 6 x) 0 6 s) ∧ (∀ i, bt s i = true → bt (ww_it (fun _ x => ww_it f 0 6 x) 0 6 s) i = true) ∧ ∀ a, a < 6 → f a (ww_it (fun _ x => ww_it f 0 6 x) 0 6 s) = ww_it (fun _ x => ww_it f 0 6 x) 0 6 s := by
  have h1 : ww_sm (ww_it (fun _ x => ww_it f 0 6 x) 0 6 s) := ww_keep _ ww_sm 6 (fun _ s _ h => (ww_roundG hm hs h).1) 6 0 s rfl h
  have h2 : ∀ i, bt s i = true → bt (ww_it (fun _ x => ww_it f 0 6 x) 0 6 s) i = true := fun i hi =>
    (ww_keep (fun _ x => ww_it f 0 6 x) (fun s => ww_sm s ∧ bt s i = true) 6 (fun _ s _ h => ⟨(ww_roundG hm hs h.1).1, (ww_roundG hm hs h.1).2.1 i h.2⟩) 6 0 s rfl ⟨h, hi⟩).2
  have h3 := ww_fix (fun x => ww_it f 0 6 x) ww_sm ww_sz 6 (fun s h => (ww_roundG hm hs h).1) (fun s _ => ww_cn_le _ 6) (fun s h => (ww_roundG hm hs h).2.2) 6 0 s h
    (by have : 0 < ww_sz s := ww_cn_pos (ww_sm_lt h hb) hb
        omega)
  refine ⟨h1, h2, fun a ha => ww_stay hm hs 6 0 _ rfl h1 (fun j hj => ?_) a (by omega) ha⟩
  have h3' : ww_it f 0 6 (ww_it (fun _ x => ww_it f 0 6 x) 0 6 s) = ww_it (fun _ x => ww_it f 0 6 x) 0 6 s := h3
  rw [h3'] at hj; exact hj
theorem ww_live_S1 {nx : Nat → Int32} (hn : ∀ a, a < 6 → ww_sm (nx a)) : ww_S1 (ww_liveF nx) nx := by
  obtain ⟨h1, h2, h3⟩ := ww_closed (f := ww_live1 nx) (fun a l i h => ww_live1_mono nx a l h) (fun a l ha h => ww_live1_sm hn ha h) (s := 1) ww_sm_1 (b := 0) (by rw [ww_b1]; rfl)
  have e : ww_it (fun _ x => ww_it (ww_live1 nx) 0 6 x) 0 6 1 = ww_liveF nx := rfl
  rw [e] at h1 h2 h3
  have hc : ∀ a b, bt (ww_liveF nx) a = true → bt (nx a) b = true → bt (ww_liveF nx) b = true := by
    intro a b ha hb
    have := h3 a (ww_sm_lt h1 ha)
    unfold ww_live1 at this
    rw [if_pos ha] at this
    rw [← this, b_or, hb]; simp
  refine ⟨h1, h2 0 (by rw [ww_b1]; rfl), hc, ?_⟩
  have key : ∀ S : Nat → Prop, S 0 → (∀ a b, S a → bt (nx a) b = true → S b) → ∀ b, bt (ww_liveF nx) b = true → S b := by
    intro S h0 hS
    have inner : ∀ l, (∀ b, bt l b = true → S b) → ∀ b, bt (ww_liveR nx l) b = true → S b := by
      intro l hl
      refine ww_keep (ww_live1 nx) (fun l => ∀ b, bt l b = true → S b) 6 ?_ 6 0 l rfl hl
      intro a s ha hs b hb
      unfold ww_live1 at hb
      by_cases g : bt s a = true
      · rw [if_pos g, b_or] at hb
        cases gb : bt s b
        · rw [gb] at hb
          exact hS a b (hs a g) (by simpa using hb)
        · exact hs b gb
      · rw [if_neg g] at hb; exact hs b hb
    refine ww_keep (fun _ l => ww_liveR nx l) (fun l => ∀ b, bt l b = true → S b) 6 (fun _ s _ h => inner s h) 6 0 1 rfl ?_
    intro b hb
    rw [ww_b1] at hb
    have : b = 0 := by simpa using hb
    rw [this]; exact h0
  intro S h0 hS b hb
  exact (key (fun b => bt (ww_liveF nx) b = true ∧ S b) ⟨h2 0 (by rw [ww_b1]; rfl), h0⟩ (fun a b ha hab => ⟨hc a b ha.1 hab, hS a b ha.1 ha.2 hab⟩) b hb).2
end
section
/-! dominators -/
theorem ww_meet_bits (lv : Int32) (nx dm : Nat → Int32) (b u : Nat) :
    bt (ww_meetF lv nx dm b) u = true ↔ bt lv u = true ∧ ∀ a, a < 6 → bt lv a = true → bt (nx a) b = true → bt (dm a) u = true := by
  have main := ww_ind (fun i s => bt s u = true ↔ bt lv u = true ∧ ∀ a, a < i → bt lv a = true → bt (nx a) b = true → bt (dm a) u = true) (ww_meet1 lv nx dm b) 6 (by
    intro i s hi h
    unfold ww_meet1
    by_cases g : bt lv i = true ∧ bt (nx i) b = true
    · rw [if_pos g, b_and, Bool.and_eq_true, h]
      constructor
      · intro ⟨⟨k1, k2⟩, k3⟩
        refine ⟨k1, fun a ha l1 l2 => ?_⟩
        by_cases e : a = i
        · rw [e]; exact k3
        · exact k2 a (by omega) l1 l2
      · intro ⟨k1, k2⟩
        exact ⟨⟨k1, fun a ha => k2 a (by omega)⟩, k2 i (by omega) g.1 g.2⟩
    · rw [if_neg g, h]
      constructor
      · intro ⟨k1, k2⟩
        refine ⟨k1, fun a ha l1 l2 => ?_⟩
        by_cases e : a = i
        · rw [e] at l1 l2; exact absurd ⟨l1, l2⟩ g
        · exact k2 a (by omega) l1 l2
      · intro ⟨k1, k2⟩
        exact ⟨k1, fun a ha => k2 a (by omega)⟩) 6 0 lv rfl
  exact main ⟨fun h => ⟨h, fun a ha => absurd ha (by omega)⟩, fun h => h.1⟩
/-- the value that a step stores -/
def ww_dv (lv : Int32) (nx dm : Nat → Int32) (b : Nat) : Int32 := ww_meetF lv nx dm b ||| ((1 : Int32) <<< (nI b &&& 31))
theorem ww_meet_sm {lv : Int32} (hl : ww_sm lv) (nx dm : Nat → Int32) (b : Nat) : ww_sm (ww_meetF lv nx dm b) := by
  intro i hi
  cases e : bt (ww_meetF lv nx dm b) i
  · rfl
  · have := ((ww_meet_bits lv nx dm b i).mp e).1
    rw [hl i hi] at this; exact this.symm
theorem ww_dv_sm {lv : Int32} (hl : ww_sm lv) (nx dm : Nat → Int32) {b : Nat} (hb : b < 6) : ww_sm (ww_dv lv nx dm b) := ww_sm_or (ww_meet_sm hl nx dm b) (ww_sm_one hb)
theorem ww_dv_bits (lv : Int32) (nx dm : Nat → Int32) {b : Nat} (hb : b < 6) (u : Nat) :
    bt (ww_dv lv nx dm b) u = true ↔ u = b ∨ (bt lv u = true ∧ ∀ a, a < 6 → bt lv a = true → bt (nx a) b = true → bt (dm a) u = true) := by
  unfold ww_dv
  rw [b_or, Bool.or_eq_true, ww_meet_bits, ww_one hb, decide_eq_true_iff]
  exact ⟨fun h => h.symm, fun h => h.symm⟩
theorem ww_dom1_eq {lv : Int32} (hl : ww_sm lv) (nx dm : Nat → Int32) {b : Nat} (hb : b < 6) : ww_dom1 lv nx b dm = if bt lv b = true then upd dm b (ww_dv lv nx dm b) else dm := by
  unfold ww_dom1
  by_cases g : bt lv b = true
  · rw [if_pos g, if_pos g]
    show upd dm b (ww_dv lv nx dm b).toInt16.toInt32 = _
    rw [ww_n16 (ww_dv_sm hl nx dm hb)]
  · rw [if_neg g, if_neg g]
/-- what holds of the sets all along -/
def ww_DP (lv : Int32) (nx dm : Nat → Int32) : Prop :=
  (∀ b, b < 6 → ww_sm (dm b)) ∧ (∀ b, b < 6 → bt lv b = false → dm b = 0) ∧ dm 0 = 1 ∧
  (∀ b u, b < 6 → bt (dm b) u = true → bt lv u = true) ∧
  (∀ b, bt lv b = true → bt (dm b) b = true ∧ bt (dm b) 0 = true) ∧
  (∀ b u, b < 6 → b ≠ 0 → bt lv b = true → bt (ww_dv lv nx dm b) u = true → bt (dm b) u = true) ∧
  (∀ X : Nat → Nat → Prop, (∀ u, X 0 u → u = 0) → (∀ b u, X b u → bt lv u = true) → (∀ a b u, b ≠ 0 → bt lv a = true → bt (nx a) b = true → X b u → u = b ∨ X a u) → ∀ b u, bt lv b = true → X b u → bt (dm b) u = true)
theorem ww_DP_step {lv : Int32} {nx dm : Nat → Int32} (hl : ww_sm lv) (h0 : bt lv 0 = true) {b : Nat} (hb : b < 6) (hb0 : b ≠ 0) (h : ww_DP lv nx dm) : ww_DP lv nx (ww_dom1 lv nx b dm) := by
  rw [ww_dom1_eq hl nx dm hb]
  by_cases g : bt lv b = true
  · rw [if_pos g]
    obtain ⟨p1, p2, p3, p4, p5, p6, p7⟩ := h
    have sub : ∀ c u, bt lv c = true → bt (upd dm b (ww_dv lv nx dm b) c) u = true → bt (dm c) u = true := by
      intro c u hc hu
      by_cases e : c = b
      · rw [e, pk_us] at hu
        rw [e]
        exact p6 b u hb hb0 g hu
      · rw [pk_un e] at hu; exact hu
    refine ⟨?_, ?_, ?_, ?_, ?_, ?_, ?_⟩
    · intro c hc
      by_cases e : c = b
      · rw [e, pk_us]; exact ww_dv_sm hl nx dm hb
      · rw [pk_un e]; exact p1 c hc
    · intro c hc hcl
      have e : c ≠ b := by intro e; rw [e, g] at hcl; exact absurd hcl (by decide)
      rw [pk_un e]; exact p2 c hc hcl
    · rw [pk_un (fun e => hb0 e.symm)]; exact p3
    · intro c u hc hu
      by_cases e : c = b
      · rw [e, pk_us] at hu
        rcases (ww_dv_bits lv nx dm hb u).mp hu with k | k
        · rw [k]; exact g
        · exact k.1
      · rw [pk_un e] at hu; exact p4 c u hc hu
    · intro c hc
      by_cases e : c = b
      · rw [e, pk_us]
        refine ⟨(ww_dv_bits lv nx dm hb b).mpr (Or.inl rfl), (ww_dv_bits lv nx dm hb 0).mpr (Or.inr ⟨h0, fun a _ ha _ => (p5 a ha).2⟩)⟩
      · rw [pk_un e]; exact p5 c hc
    · intro c u hc hc0 hcl hu
      have hu' : bt (ww_dv lv nx dm c) u = true := by
        rcases (ww_dv_bits lv nx _ hc u).mp hu with k | k
        · exact (ww_dv_bits lv nx dm hc u).mpr (Or.inl k)
        · exact (ww_dv_bits lv nx dm hc u).mpr (Or.inr ⟨k.1, fun a ha l1 l2 => sub a u l1 (k.2 a ha l1 l2)⟩)
      by_cases e : c = b
      · rw [e, pk_us]; rw [e] at hu'; exact hu'
      · rw [pk_un e]; exact p6 c u hc hc0 hcl hu'
    · intro X x0 x1 x2 c u hc hX
      by_cases e : c = b
      · rw [e, pk_us]
        rw [e] at hX
        refine (ww_dv_bits lv nx dm hb u).mpr ?_
        by_cases eu : u = b
        · exact Or.inl eu
        · refine Or.inr ⟨x1 b u hX, fun a ha l1 l2 => ?_⟩
          rcases x2 a b u hb0 l1 l2 hX with k | k
          · exact absurd k eu
          · exact p7 X x0 x1 x2 a u l1 k
      · rw [pk_un e]; exact p7 X x0 x1 x2 c u hc hX
  · rw [if_neg g]; exact h
theorem ww_DP_init {lv : Int32} (nx dm : Nat → Int32) (hl : ww_sm lv) (h0 : bt lv 0 = true) : ww_DP lv nx (ww_domI lv dm) := by
  have v : ∀ b, b < 6 → b ≠ 0 → ww_domI lv dm b = if bt lv b = true then lv else 0 := by
    intro b hb hb0
    unfold ww_domI
    rw [pk_un hb0]
    have := ww_ind (fun i s => ∀ c, c < i → s c = if bt lv c = true then lv else 0) (ww_dom0 lv) 6 (by
      intro i s hi h c hc
      unfold ww_dom0
      by_cases e : c = i
      · rw [e, pk_us]
        by_cases g : bt lv i = true
        · rw [if_pos g, if_pos g]; exact ww_n16 hl
        · rw [if_neg g, if_neg g]; exact ww_n16 ww_sm_0
      · rw [pk_un e]; exact h c (by omega)) 6 0 dm rfl (fun c hc => absurd hc (by omega))
    exact this b hb
  have v0 : ww_domI lv dm 0 = 1 := by unfold ww_domI; rw [pk_us]
  refine ⟨?_, ?_, v0, ?_, ?_, ?_, ?_⟩
  · intro b hb
    by_cases e : b = 0
    · rw [e, v0]; exact ww_sm_1
    · rw [v b hb e]
      by_cases g : bt lv b = true
      · rw [if_pos g]; exact hl
      · rw [if_neg g]; exact ww_sm_0
  · intro b hb g
    have e : b ≠ 0 := by intro e; rw [e, h0] at g; exact absurd g (by decide)
    rw [v b hb e, if_neg (ww_ft g)]
  · intro b u hb hu
    by_cases e : b = 0
    · rw [e, v0, ww_b1] at hu
      have : u = 0 := by simpa using hu
      rw [this]; exact h0
    · rw [v b hb e] at hu
      by_cases g : bt lv b = true
      · rw [if_pos g] at hu; exact hu
      · rw [if_neg g, b_0] at hu; exact absurd hu (by decide)
  · intro b hb
    by_cases e : b = 0
    · rw [e, v0, ww_b1]; exact ⟨rfl, rfl⟩
    · rw [v b (ww_sm_lt hl hb) e, if_pos hb]; exact ⟨hb, h0⟩
  · intro b u hb hb0 g hu
    rw [v b hb hb0, if_pos g]
    rcases (ww_dv_bits lv nx _ hb u).mp hu with k | k
    · rw [k]; exact g
    · exact k.1
  · intro X x0 x1 x2 b u hb hX
    by_cases e : b = 0
    · rw [e] at hX
      rw [e, v0, ww_b1, x0 u hX]; rfl
    · rw [v b (ww_sm_lt hl hb) e, if_pos hb]; exact x1 b u hX
theorem ww_DP_round {lv : Int32} {nx dm : Nat → Int32} (hl : ww_sm lv) (h0 : bt lv 0 = true) (h : ww_DP lv nx dm) : ww_DP lv nx (ww_domR lv nx dm) :=
  ww_ind2 (fun _ d => ww_DP lv nx d) (ww_dom1 lv nx) 1 6 (fun i s h1 h2 h => ww_DP_step hl h0 h2 (by omega) h) 5 1 dm (Nat.le_refl 1) rfl h
/-- how many places are taken away from the sets of the first n blocks -/
def ww_out (dm : Nat → Int32) : Nat → Nat
  | 0 => 0
  | n + 1 => ww_out dm n + (6 - ww_sz (dm n))
theorem ww_out_le (dm : Nat → Int32) (n : Nat) : ww_out dm n ≤ 6 * n := by
  induction n with
  | zero => exact Nat.le_refl 0
  | succ n ih => show ww_out dm n + (6 - ww_sz (dm n)) ≤ 6 * (n + 1); omega
theorem ww_out_upd (dm : Nat → Int32) (b : Nat) (v : Int32) (n : Nat) : ww_out (upd dm b v) n + (if b < n then 6 - ww_sz (dm b) else 0) = ww_out dm n + (if b < n then 6 - ww_sz v else 0) := by
  induction n with
  | zero => rfl
  | succ n ih =>
    show ww_out (upd dm b v) n + (6 - ww_sz (upd dm b v n)) + _ = ww_out dm n + (6 - ww_sz (dm n)) + _
    by_cases e : n = b
    · subst e
      rw [if_neg (by omega), if_neg (by omega)] at ih
      rw [pk_us, if_pos (by omega), if_pos (by omega)]
      omega
    · rw [pk_un e]
      by_cases g : b < n
      · rw [if_pos g, if_pos g] at ih
        rw [if_pos (by omega), if_pos (by omega)]
        omega
      · rw [if_neg g, if_neg g] at ih
        rw [if_neg (by omega), if_neg (by omega)]
        omega
theorem ww_dom1_out {lv : Int32} {nx dm : Nat → Int32} (hl : ww_sm lv) {b : Nat} (hb : b < 6) (hb0 : b ≠ 0) (h : ww_DP lv nx dm) : ww_dom1 lv nx b dm = dm ∨ ww_out dm 6 < ww_out (ww_dom1 lv nx b dm) 6 := by
  rw [ww_dom1_eq hl nx dm hb]
  by_cases g : bt lv b = true
  · rw [if_pos g]
    by_cases e : ww_dv lv nx dm b = dm b
    · exact Or.inl (ww_updSelf dm b e)
    · refine Or.inr ?_
      have sub : ∀ u, bt (ww_dv lv nx dm b) u = true → bt (dm b) u = true := fun u hu => h.2.2.2.2.2.1 b u hb hb0 g hu
      have : ∃ u, u < 6 ∧ bt (ww_dv lv nx dm b) u = false ∧ bt (dm b) u = true := by
        by_cases k : ∃ u, u < 6 ∧ bt (ww_dv lv nx dm b) u = false ∧ bt (dm b) u = true
        · exact k
        · refine absurd (ww_ext (ww_dv_sm hl nx dm hb) (h.1 b hb) (fun u hu => ?_)) e
          cases k1 : bt (ww_dv lv nx dm b) u
          · cases k2 : bt (dm b) u
            · rfl
            · exact absurd ⟨u, hu, k1, k2⟩ k
          · exact (sub u k1).symm
      obtain ⟨u, hu, k1, k2⟩ := this
      have lt : ww_sz (ww_dv lv nx dm b) < ww_sz (dm b) := ww_cn_lt (fun i _ => sub i) hu k1 k2
      have le : ww_sz (dm b) ≤ 6 := ww_cn_le _ 6
      have := ww_out_upd dm b (ww_dv lv nx dm b) 6
      rw [if_pos hb, if_pos hb] at this
      omega
  · rw [if_neg g]; exact Or.inl rfl
theorem ww_domR_out {lv : Int32} {nx dm : Nat → Int32} (hl : ww_sm lv) (h0 : bt lv 0 = true) (h : ww_DP lv nx dm) :
    (ww_domR lv nx dm = dm ∧ ∀ b, b < 6 → b ≠ 0 → ww_dom1 lv nx b dm = dm) ∨ ww_out dm 6 < ww_out (ww_domR lv nx dm) 6 := by
  have main : ∀ k i d, 1 ≤ i → i + k = 6 → ww_DP lv nx d → (ww_it (ww_dom1 lv nx) i k d = d ∧ ∀ b, i ≤ b → b < 6 → ww_dom1 lv nx b d = d) ∨ ww_out d 6 < ww_out (ww_it (ww_dom1 lv nx) i k d) 6 := by
    intro k
    induction k with
    | zero => intro i d h1 he hd; exact Or.inl ⟨rfl, fun b k1 k2 => by omega⟩
    | succ k ih =>
      intro i d h1 he hd
      show (ww_it (ww_dom1 lv nx) (i + 1) k (ww_dom1 lv nx i d) = d ∧ _) ∨ ww_out d 6 < ww_out (ww_it (ww_dom1 lv nx) (i + 1) k (ww_dom1 lv nx i d)) 6
      have hd' := ww_DP_step hl h0 (b := i) (by omega) (by omega) hd
      rcases ih (i + 1) _ (by omega) (by omega) hd' with r | r
      · rcases ww_dom1_out hl (b := i) (by omega) (by omega) hd with q | q
        · rw [q] at r ⊢
          refine Or.inl ⟨r.1, fun b k1 k2 => ?_⟩
          by_cases e : b = i
          · rw [e]; exact q
          · exact r.2 b (by omega) k2
        · refine Or.inr ?_
          rw [r.1]; exact q
      · rcases ww_dom1_out hl (b := i) (by omega) (by omega) hd with q | q
        · rw [q] at r ⊢; exact Or.inr r
        · exact Or.inr (by omega)
  rcases main 5 1 dm (Nat.le_refl 1) rfl h with r | r
  · exact Or.inl ⟨r.1, fun b k1 k2 => r.2 b (by omega) k1⟩
  · exact Or.inr r
theorem ww_dom_S2 {lv : Int32} {nx : Nat → Int32} (dm : Nat → Int32) (h1 : ww_S1 lv nx) : ww_S2 lv nx (ww_domF lv nx dm) := by
  have hl := h1.1
  have h0 := h1.2.1
  have hP : ww_DP lv nx (ww_domF lv nx dm) := ww_keep _ (ww_DP lv nx) 36 (fun _ s _ h => ww_DP_round hl h0 h) 36 0 _ rfl (ww_DP_init nx dm hl h0)
  have hf : ww_domR lv nx (ww_domF lv nx dm) = ww_domF lv nx dm := by
    have hlt : ww_out (ww_domI lv dm) 6 + 36 > 35 := by omega
    have pos : ∀ s, ww_DP lv nx s → ww_out s 6 ≤ 35 := by
      intro s hs
      have e0 : ww_sz (s 0) = 1 := by rw [hs.2.2.1]; decide +kernel
      have e : ww_out s 6 = (6 - ww_sz (s 0)) + (6 - ww_sz (s 1)) + (6 - ww_sz (s 2)) + (6 - ww_sz (s 3)) + (6 - ww_sz (s 4)) + (6 - ww_sz (s 5)) := by
        simp only [ww_out, Nat.zero_add]
      omega
    exact ww_fix (fun d => ww_domR lv nx d) (ww_DP lv nx) (fun d => ww_out d 6) 35 (fun s h => ww_DP_round hl h0 h) pos
      (fun s h => by
        rcases ww_domR_out hl h0 h with r | r
        · exact Or.inl r.1
        · exact Or.inr r) 36 0 (ww_domI lv dm) (ww_DP_init nx dm hl h0) hlt
  have hb : ∀ b, b < 6 → b ≠ 0 → ww_dom1 lv nx b (ww_domF lv nx dm) = ww_domF lv nx dm := by
    rcases ww_domR_out hl h0 hP with r | r
    · exact r.2
    · rw [hf] at r; omega
  obtain ⟨p1, p2, p3, p4, p5, p6, p7⟩ := hP
  refine ⟨p1, p2, p3, p4, p5, ?_, p7⟩
  intro a b u hb0 ha hab hu
  have hbl : bt lv b = true := h1.2.2.1 a b ha hab
  have hb6 := ww_sm_lt hl hbl
  have e := hb b hb6 hb0
  rw [ww_dom1_eq hl nx _ hb6, if_pos hbl] at e
  have e2 : ww_dv lv nx (ww_domF lv nx dm) b = ww_domF lv nx dm b := by
    have := congrFun e b
    rw [pk_us] at this
    exact this
  rw [← e2] at hu
  rcases (ww_dv_bits lv nx _ hb6 u).mp hu with k | k
  · exact Or.inl k
  · exact Or.inr (k.2 a (ww_sm_lt hl ha) ha hab)
end
section
/-! what follows of dominators -/
theorem ww_d0 {lv : Int32} {nx dm : Nat → Int32} (h2 : ww_S2 lv nx dm) {u : Nat} (h : bt (dm 0) u = true) : u = 0 := by
  rw [h2.2.2.1, ww_b1] at h; simpa using h
/-- transitive -/
theorem ww_dtr {lv : Int32} {nx dm : Nat → Int32} (h1 : ww_S1 lv nx) (h2 : ww_S2 lv nx dm) {b u v : Nat} (hb : bt lv b = true) (hu : bt (dm b) u = true) (hv : bt (dm u) v = true) : bt (dm b) v = true := by
  have hl := h1.1
  obtain ⟨p1, p2, p3, p4, p5, p6, p7⟩ := h2
  have z : ∀ u, bt (dm 0) u = true → u = 0 := fun u h => by rw [p3, ww_b1] at h; simpa using h
  refine p7 (fun b v => b < 6 ∧ ∃ u, bt (dm b) u = true ∧ bt (dm u) v = true) ?_ ?_ ?_ b v hb ⟨ww_sm_lt hl hb, u, hu, hv⟩
  · intro v ⟨_, u, k1, k2⟩
    rw [z u k1] at k2
    exact z v k2
  · intro b v ⟨hb, u, k1, k2⟩
    have := p4 b u hb k1
    exact p4 u v (ww_sm_lt hl this) k2
  · intro a b v hb0 ha hab ⟨hb, u, k1, k2⟩
    by_cases e : v = b
    · exact Or.inl e
    · refine Or.inr ⟨ww_sm_lt hl ha, ?_⟩
      rcases p6 a b u hb0 ha hab k1 with q | q
      · rw [q] at k2
        rcases p6 a b v hb0 ha hab k2 with r | r
        · exact absurd r e
        · exact ⟨a, (p5 a ha).1, r⟩
      · exact ⟨u, q, k2⟩
/-- antisymmetric -/
theorem ww_das {lv : Int32} {nx dm : Nat → Int32} (h1 : ww_S1 lv nx) (h2 : ww_S2 lv nx dm) {b u : Nat} (hb : bt lv b = true) (hu : bt (dm b) u = true) (hv : bt (dm u) b = true) : u = b := by
  by_cases e : u = b
  · exact e
  · have hl := h1.1
    have hul : bt lv u = true := h2.2.2.2.1 b u (ww_sm_lt hl hb) hu
    have key := h1.2.2.2 (fun x => ¬ (bt (dm x) u = true ∧ bt (dm x) b = true)) (by
      intro ⟨k1, k2⟩
      rw [ww_d0 h2 k1, ww_d0 h2 k2] at e
      exact e rfl) (by
      intro a c ha ih hac ⟨k1, k2⟩
      by_cases c0 : c = 0
      · rw [c0] at k1 k2
        rw [ww_d0 h2 k1, ww_d0 h2 k2] at e
        exact e rfl
      · rcases h2.2.2.2.2.2.1 a c u c0 ha hac k1 with q | q
        · rcases h2.2.2.2.2.2.1 a c b c0 ha hac k2 with r | r
          · exact e (q.trans r.symm)
          · exact ih ⟨ww_dtr h1 h2 ha r hu, r⟩
        · exact ih ⟨q, ww_dtr h1 h2 ha q hv⟩)
    exact absurd ⟨hu, (h2.2.2.2.2.1 b hb).1⟩ (key b hb)
/-- those that dominate one block are in a row -/
theorem ww_dln {lv : Int32} {nx dm : Nat → Int32} (h1 : ww_S1 lv nx) (h2 : ww_S2 lv nx dm) {x g h : Nat} (hx : bt lv x = true) (hg : bt (dm x) g = true) (hh : bt (dm x) h = true) : bt (dm h) g = true ∨ bt (dm g) h = true := by
  refine h1.2.2.2 (fun x => ∀ g h, bt (dm x) g = true → bt (dm x) h = true → bt (dm h) g = true ∨ bt (dm g) h = true) ?_ ?_ x hx g h hg hh
  · intro g h k1 k2
    rw [ww_d0 h2 k1, ww_d0 h2 k2]
    exact Or.inl (h2.2.2.2.2.1 0 h1.2.1).1
  · intro a c ha ih hac g h k1 k2
    by_cases c0 : c = 0
    · rw [c0] at k1 k2
      rw [ww_d0 h2 k1, ww_d0 h2 k2]
      exact Or.inl (h2.2.2.2.2.1 0 h1.2.1).1
    · rcases h2.2.2.2.2.2.1 a c g c0 ha hac k1 with q | q
      · rw [q]; exact Or.inr k2
      · rcases h2.2.2.2.2.2.1 a c h c0 ha hac k2 with r | r
        · rw [r]; exact Or.inl k1
        · exact ih g h q r
/-- a live block other than 0 has an edge to it that is not a back edge -/
theorem ww_fpred {lv : Int32} {nx dm : Nat → Int32} (h1 : ww_S1 lv nx) (h2 : ww_S2 lv nx dm) {c : Nat} (hc : bt lv c = true) (c0 : c ≠ 0) : ∃ a, bt lv a = true ∧ bt (nx a) c = true ∧ bt (dm a) c = false := by
  by_cases g : ∃ a, bt lv a = true ∧ bt (nx a) c = true ∧ bt (dm a) c = false
  · exact g
  · have key := h1.2.2.2 (fun x => x ≠ c ∧ bt (dm x) c = false) ⟨fun e => c0 e.symm, by
      cases k : bt (dm 0) c
      · rfl
      · exact absurd (ww_d0 h2 k) c0⟩ (by
      intro a x ha ih hax
      have hne : x ≠ c := by
        intro e
        rw [e] at hax
        exact g ⟨a, ha, hax, ih.2⟩
      refine ⟨hne, ?_⟩
      cases k : bt (dm x) c
      · rfl
      · by_cases x0 : x = 0
        · rw [x0] at k; exact absurd (ww_d0 h2 k) c0
        · rcases h2.2.2.2.2.2.1 a x c x0 ha hax k with q | q
          · exact absurd q.symm hne
          · rw [ih.2] at q; exact q.symm)
    exact absurd rfl (key c hc).1
/-! edges -/
theorem ww_sp1_val {lv : Int32} {nx dm : Nat → Int32} {a b : Nat} (ha : a < 6) (hb : b < 6) {p : (Nat → Int32) × (Nat → Int32)} (h1 : ∀ a, a < 6 → ww_sm (p.1 a)) (h2 : ∀ a, a < 6 → ww_sm (p.2 a)) :
    (∀ x, x < 6 → ww_sm ((ww_sp1 lv nx dm a b p).1 x)) ∧ (∀ x, x < 6 → ww_sm ((ww_sp1 lv nx dm a b p).2 x)) ∧
    (∀ x y, x < 6 → y < 6 → (bt ((ww_sp1 lv nx dm a b p).1 x) y = true ↔ bt (p.1 x) y = true ∨ (x = a ∧ y = b ∧ bt lv a = true ∧ bt (nx a) b = true ∧ bt (dm a) b = false))) ∧
    (∀ x y, x < 6 → y < 6 → (bt ((ww_sp1 lv nx dm a b p).2 y) x = true ↔ bt (p.2 y) x = true ∨ (x = a ∧ y = b ∧ bt lv a = true ∧ bt (nx a) b = true ∧ bt (dm a) b = true))) := by
  unfold ww_sp1
  by_cases g : bt lv a = true ∧ bt (nx a) b = true
  · rw [if_pos g]
    by_cases k : bt (dm a) b = true
    · rw [if_pos k]
      have e : (p.2 b ||| ((1 : Int32) <<< (nI a &&& 31))).toInt16.toInt32 = p.2 b ||| ((1 : Int32) <<< (nI a &&& 31)) := ww_n16 (ww_sm_or (h2 b hb) (ww_sm_one ha))
      rw [e]
      refine ⟨h1, ?_, ?_, ?_⟩
      · intro x hx
        show ww_sm (upd p.2 b _ x)
        by_cases ex : x = b
        · rw [ex, pk_us]; exact ww_sm_or (h2 b hb) (ww_sm_one ha)
        · rw [pk_un ex]; exact h2 x hx
      · intro x y hx hy
        rw [k]
        constructor
        · intro h; exact Or.inl h
        · intro h
          rcases h with h | h
          · exact h
          · exact absurd h.2.2.2.2 (by decide)
      · intro x y hx hy
        show bt (upd p.2 b _ y) x = true ↔ _
        by_cases ey : y = b
        · rw [ey, pk_us, b_or, ww_one ha, Bool.or_eq_true, decide_eq_true_iff]
          constructor
          · intro h
            rcases h with h | h
            · exact Or.inl h
            · exact Or.inr ⟨h, rfl, g.1, g.2, k⟩
          · intro h
            rcases h with h | h
            · exact Or.inl h
            · exact Or.inr h.1
        · rw [pk_un ey]
          exact ⟨Or.inl, fun h => h.elim id (fun h => absurd h.2.1 ey)⟩
    · rw [if_neg k]
      have k' := ww_nf k
      have e : (p.1 a ||| ((1 : Int32) <<< (nI b &&& 31))).toInt16.toInt32 = p.1 a ||| ((1 : Int32) <<< (nI b &&& 31)) := ww_n16 (ww_sm_or (h1 a ha) (ww_sm_one hb))
      rw [e]
      refine ⟨?_, h2, ?_, ?_⟩
      · intro x hx
        show ww_sm (upd p.1 a _ x)
        by_cases ex : x = a
        · rw [ex, pk_us]; exact ww_sm_or (h1 a ha) (ww_sm_one hb)
        · rw [pk_un ex]; exact h1 x hx
      · intro x y hx hy
        show bt (upd p.1 a _ x) y = true ↔ _
        by_cases ex : x = a
        · rw [ex, pk_us, b_or, ww_one hb, Bool.or_eq_true, decide_eq_true_iff]
          constructor
          · intro h
            rcases h with h | h
            · exact Or.inl h
            · exact Or.inr ⟨rfl, h, g.1, g.2, k'⟩
          · intro h
            rcases h with h | h
            · exact Or.inl h
            · exact Or.inr h.2.1
        · rw [pk_un ex]
          exact ⟨Or.inl, fun h => h.elim id (fun h => absurd h.1 ex)⟩
      · intro x y hx hy
        exact ⟨Or.inl, fun h => h.elim id (fun h => absurd h.2.2.2.2 k)⟩
  · rw [if_neg g]
    exact ⟨h1, h2, fun x y _ _ => ⟨Or.inl, fun h => h.elim id (fun h => absurd ⟨h.2.2.1, h.2.2.2.1⟩ g)⟩, fun x y _ _ => ⟨Or.inl, fun h => h.elim id (fun h => absurd ⟨h.2.2.1, h.2.2.2.1⟩ g)⟩⟩
def ww_SI (lv : Int32) (nx dm : Nat → Int32) (i j : Nat) (p : (Nat → Int32) × (Nat → Int32)) : Prop :=
  (∀ x, x < 6 → ww_sm (p.1 x)) ∧ (∀ x, x < 6 → ww_sm (p.2 x)) ∧
  (∀ x y, x < 6 → y < 6 → (bt (p.1 x) y = true ↔ (x < i ∨ (x = i ∧ y < j)) ∧ bt lv x = true ∧ bt (nx x) y = true ∧ bt (dm x) y = false)) ∧
  (∀ x y, x < 6 → y < 6 → (bt (p.2 y) x = true ↔ (x < i ∨ (x = i ∧ y < j)) ∧ bt lv x = true ∧ bt (nx x) y = true ∧ bt (dm x) y = true))
theorem ww_SI_step {lv : Int32} {nx dm : Nat → Int32} {i j : Nat} (hi : i < 6) (hj : j < 6) {p : (Nat → Int32) × (Nat → Int32)} (h : ww_SI lv nx dm i j p) : ww_SI lv nx dm i (j + 1) (ww_sp1 lv nx dm i j p) := by
  obtain ⟨a1, a2, a3, a4⟩ := h
  obtain ⟨b1, b2, b3, b4⟩ := ww_sp1_val (lv := lv) (nx := nx) (dm := dm) hi hj a1 a2
  refine ⟨b1, b2, fun x y hx hy => ?_, fun x y hx hy => ?_⟩
  · rw [b3 x y hx hy, a3 x y hx hy]
    constructor
    · intro h
      rcases h with h | ⟨e1, e2, h⟩
      · exact ⟨by omega, h.2⟩
      · subst e1 e2; exact ⟨by omega, h⟩
    · intro ⟨h, k⟩
      by_cases e : x = i ∧ y = j
      · obtain ⟨e1, e2⟩ := e
        subst e1 e2
        exact Or.inr ⟨rfl, rfl, k⟩
      · exact Or.inl ⟨by omega, k⟩
  · rw [b4 x y hx hy, a4 x y hx hy]
    constructor
    · intro h
      rcases h with h | ⟨e1, e2, h⟩
      · exact ⟨by omega, h.2⟩
      · subst e1 e2; exact ⟨by omega, h⟩
    · intro ⟨h, k⟩
      by_cases e : x = i ∧ y = j
      · obtain ⟨e1, e2⟩ := e
        subst e1 e2
        exact Or.inr ⟨rfl, rfl, k⟩
      · exact Or.inl ⟨by omega, k⟩
theorem ww_SI_row {lv : Int32} {nx dm : Nat → Int32} {i : Nat} (hi : i < 6) {p : (Nat → Int32) × (Nat → Int32)} (h : ww_SI lv nx dm i 0 p) : ww_SI lv nx dm (i + 1) 0 (ww_sp2 lv nx dm i p) := by
  have := ww_ind (fun j p => ww_SI lv nx dm i j p) (ww_sp1 lv nx dm i) 6 (fun j s hj h => ww_SI_step hi hj h) 6 0 p rfl h
  obtain ⟨a1, a2, a3, a4⟩ := this
  refine ⟨a1, a2, fun x y hx hy => ?_, fun x y hx hy => ?_⟩
  · have e : (x < i + 1 ∨ (x = i + 1 ∧ y < 0)) ↔ (x < i ∨ (x = i ∧ y < 6)) := by omega
    rw [e]; exact a3 x y hx hy
  · have e : (x < i + 1 ∨ (x = i + 1 ∧ y < 0)) ↔ (x < i ∨ (x = i ∧ y < 6)) := by omega
    rw [e]; exact a4 x y hx hy
theorem ww_sp_S3 {lv : Int32} {nx dm : Nat → Int32} (p : (Nat → Int32) × (Nat → Int32)) (h1 : ww_S1 lv nx) : ww_S3 lv nx dm (ww_spF lv nx dm p).1 (ww_spF lv nx dm p).2 := by
  have z := ww_ind (fun i p => ∀ x, x < i → p.1 x = 0 ∧ p.2 x = 0) ww_sp0 6 (by
    intro i s hi h x hx
    show upd s.1 i 0 x = 0 ∧ upd s.2 i 0 x = 0
    by_cases e : x = i
    · rw [e, pk_us, pk_us]; exact ⟨rfl, rfl⟩
    · rw [pk_un e, pk_un e]; exact h x (by omega)) 6 0 p rfl (fun x hx => absurd hx (by omega))
  have start : ww_SI lv nx dm 0 0 (ww_it ww_sp0 0 6 p) := by
    refine ⟨fun x hx => ?_, fun x hx => ?_, fun x y hx hy => ?_, fun x y hx hy => ?_⟩
    · rw [(z x hx).1]; exact ww_sm_0
    · rw [(z x hx).2]; exact ww_sm_0
    · rw [(z x hx).1, b_0]; exact ⟨fun h => absurd h (by decide), fun h => absurd h.1 (by omega)⟩
    · rw [(z y hy).2, b_0]; exact ⟨fun h => absurd h (by decide), fun h => absurd h.1 (by omega)⟩
  have fin : ww_SI lv nx dm 6 0 (ww_spF lv nx dm p) := ww_ind (fun i p => ww_SI lv nx dm i 0 p) (ww_sp2 lv nx dm) 6 (fun i s hi h => ww_SI_row hi h) 6 0 _ rfl start
  obtain ⟨a1, a2, a3, a4⟩ := fin
  refine ⟨a1, a2, fun a b ha => ?_, fun a b hb => ?_⟩
  · constructor
    · intro h
      exact ((a3 a b ha (ww_sm_lt (a1 a ha) h)).mp h).2
    · intro h
      have hb := ww_sm_lt h1.1 (h1.2.2.1 a b h.1 h.2.1)
      exact (a3 a b ha hb).mpr ⟨by omega, h⟩
  · constructor
    · intro h
      exact ((a4 a b (ww_sm_lt (a2 b hb) h) hb).mp h).2
    · intro h
      have ha := ww_sm_lt h1.1 h.1
      exact (a4 a b ha hb).mpr ⟨by omega, h⟩
end
section
/-! loops -/
theorem ww_lo1_cond {lv : Int32} {nx : Nat → Int32} (hn : ∀ a, a < 6 → ww_sm (nx a)) {h a : Nat} (hh : h < 6) (ha : a < 6) (s : Int32) :
    (¬ ((nx a &&& s) &&& (((1 : Int32) <<< (nI h &&& 31)) ^^^ (-1))) = 0) ↔ ∃ c, bt (nx a) c = true ∧ bt s c = true ∧ c ≠ h := by
  have sm : ww_sm ((nx a &&& s) &&& (((1 : Int32) <<< (nI h &&& 31)) ^^^ (-1))) := ww_sm_and (ww_sm_and (hn a ha))
  constructor
  · intro k
    obtain ⟨c, hc, e⟩ := ww_nz sm k
    rw [b_and, b_and, ww_not _ (by omega), ww_one hh] at e
    simp only [Bool.and_eq_true, Bool.not_eq_true', decide_eq_false_iff_not] at e
    exact ⟨c, e.1.1, e.1.2, e.2⟩
  · intro ⟨c, k1, k2, k3⟩
    refine ww_ne0 (i := c) ?_
    have hc := ww_sm_lt (hn a ha) k1
    rw [b_and, b_and, ww_not _ (by omega), ww_one hh, k1, k2]
    simp [k3]
theorem ww_lo1_mono (lv : Int32) (nx : Nat → Int32) (h a : Nat) (s : Int32) {i : Nat} (k : bt s i = true) : bt (ww_lo1 lv nx h a s) i = true := by
  unfold ww_lo1
  by_cases e : bt lv a = true ∧ ¬ ((nx a &&& s) &&& (((1 : Int32) <<< (nI h &&& 31)) ^^^ (-1))) = 0
  · rw [if_pos e, b_or, k]; rfl
  · rw [if_neg e]; exact k
theorem ww_lo1_sm {lv : Int32} {nx : Nat → Int32} {h a : Nat} (ha : a < 6) {s : Int32} (k : ww_sm s) : ww_sm (ww_lo1 lv nx h a s) := by
  unfold ww_lo1
  by_cases e : bt lv a = true ∧ ¬ ((nx a &&& s) &&& (((1 : Int32) <<< (nI h &&& 31)) ^^^ (-1))) = 0
  · rw [if_pos e]; exact ww_sm_or k (ww_sm_one ha)
  · rw [if_neg e]; exact k
theorem ww_loF_spec {lv : Int32} {nx bk : Nat → Int32} (hl : ww_sm lv) (hn : ∀ a, a < 6 → ww_sm (nx a)) {h : Nat} (hh : h < 6) (hb : ww_sm (bk h)) :
    ww_sm (ww_loF lv nx bk h) ∧ (bk h = 0 → ww_loF lv nx bk h = 0) ∧
    (¬ bk h = 0 → bt (ww_loF lv nx bk h) h = true ∧ (∀ a, bt (bk h) a = true → bt (ww_loF lv nx bk h) a = true) ∧
    (∀ a c, bt lv a = true → bt (nx a) c = true → bt (ww_loF lv nx bk h) c = true → c ≠ h → bt (ww_loF lv nx bk h) a = true) ∧
    (∀ S : Nat → Prop, S h → (∀ a, bt (bk h) a = true → S a) → (∀ a c, bt lv a = true → bt (nx a) c = true → S c → c ≠ h → S a) → ∀ u, bt (ww_loF lv nx bk h) u = true → S u)) := by
  by_cases z : bk h = 0
  · have e : ww_loF lv nx bk h = 0 := by unfold ww_loF; rw [if_pos z]
    rw [e]
    exact ⟨ww_sm_0, fun _ => rfl, fun k => absurd z k⟩
  · have e : ww_loF lv nx bk h = ww_it (fun _ s => ww_it (ww_lo1 lv nx h) 0 6 s) 0 6 (bk h ||| ((1 : Int32) <<< (nI h &&& 31))) := by unfold ww_loF; rw [if_neg z]; rfl
    have s0 : ww_sm (bk h ||| ((1 : Int32) <<< (nI h &&& 31))) := ww_sm_or hb (ww_sm_one hh)
    have i0 : bt (bk h ||| ((1 : Int32) <<< (nI h &&& 31))) h = true := by rw [b_or, ww_one hh]; simp
    obtain ⟨h1, h2, h3⟩ := ww_closed (f := ww_lo1 lv nx h) (fun a l i k => ww_lo1_mono lv nx h a l k) (fun a l ha k => ww_lo1_sm ha k) s0 i0
    rw [← e] at h1 h2 h3
    refine ⟨h1, fun k => absurd k z, fun _ => ⟨h2 h i0, fun a ha => h2 a (by rw [b_or, ha]; rfl), ?_, ?_⟩⟩
    · intro a c ha hac hc hch
      have h6 := ww_sm_lt hl ha
      have := h3 a h6
      unfold ww_lo1 at this
      rw [if_pos ⟨ha, (ww_lo1_cond (lv := lv) hn hh h6 _).mpr ⟨c, hac, hc, hch⟩⟩] at this
      rw [← this, b_or, ww_one h6]; simp
    · intro S k1 k2 k3
      have inner : ∀ s, (∀ u, bt s u = true → S u) → ∀ u, bt (ww_it (ww_lo1 lv nx h) 0 6 s) u = true → S u := by
        intro s hs
        refine ww_keep (ww_lo1 lv nx h) (fun s => ∀ u, bt s u = true → S u) 6 ?_ 6 0 s rfl hs
        intro a s ha hs u hu
        unfold ww_lo1 at hu
        by_cases g : bt lv a = true ∧ ¬ ((nx a &&& s) &&& (((1 : Int32) <<< (nI h &&& 31)) ^^^ (-1))) = 0
        · rw [if_pos g, b_or, ww_one ha, Bool.or_eq_true, decide_eq_true_iff] at hu
          rcases hu with q | q
          · exact hs u q
          · obtain ⟨c, m1, m2, m3⟩ := (ww_lo1_cond (lv := lv) hn hh ha s).mp g.2
            rw [q]; exact k3 a c g.1 m1 (hs c m2) m3
        · rw [if_neg g] at hu; exact hs u hu
      rw [e]
      refine ww_keep (fun _ s => ww_it (ww_lo1 lv nx h) 0 6 s) (fun s => ∀ u, bt s u = true → S u) 6 (fun _ s _ k => inner s k) 6 0 _ rfl ?_
      intro u hu
      rw [b_or, ww_one hh, Bool.or_eq_true, decide_eq_true_iff] at hu
      rcases hu with q | q
      · exact k2 u q
      · rw [q]; exact k1
theorem ww_lps_val {lv : Int32} {nx bk : Nat → Int32} (lp : Nat → Int32) (hl : ww_sm lv) (hn : ∀ a, a < 6 → ww_sm (nx a)) (hb : ∀ h, h < 6 → ww_sm (bk h)) {h : Nat} (hh : h < 6) : ww_lps lv nx bk lp h = ww_loF lv nx bk h := by
  have := ww_ind (fun i s => ∀ c, c < i → s c = ww_loF lv nx bk c) (fun h l => upd l h (ww_loF lv nx bk h).toInt16.toInt32) 6 (by
    intro i s hi k c hc
    show upd s i _ c = _
    by_cases e : c = i
    · rw [e, pk_us]; exact ww_n16 (ww_loF_spec hl hn hi (hb i hi)).1
    · rw [pk_un e]; exact k c (by omega)) 6 0 lp rfl (fun c hc => absurd hc (by omega))
  exact this h hh
theorem ww_lp_S4 {lv : Int32} {nx bk : Nat → Int32} (lp : Nat → Int32) (hl : ww_sm lv) (hn : ∀ a, a < 6 → ww_sm (nx a)) (hb : ∀ h, h < 6 → ww_sm (bk h)) : ww_S4 lv nx bk (ww_lps lv nx bk lp) := by
  refine ⟨fun h hh => ?_, fun h hh => ?_, fun h hh => ?_⟩
  · rw [ww_lps_val lp hl hn hb hh]; exact (ww_loF_spec hl hn hh (hb h hh)).1
  · rw [ww_lps_val lp hl hn hb hh]; exact (ww_loF_spec hl hn hh (hb h hh)).2.1
  · rw [ww_lps_val lp hl hn hb hh]; exact (ww_loF_spec hl hn hh (hb h hh)).2.2
/-! what follows of loops -/
theorem ww_lbk {lv : Int32} {nx bk lp : Nat → Int32} (h4 : ww_S4 lv nx bk lp) {h u : Nat} (hh : h < 6) (hu : bt (lp h) u = true) : ¬ bk h = 0 := fun e => ww_ne0 hu (h4.2.1 h hh e)
theorem ww_lhd {lv : Int32} {nx bk lp : Nat → Int32} (h4 : ww_S4 lv nx bk lp) {h u : Nat} (hh : h < 6) (hu : bt (lp h) u = true) : bt (lp h) h = true := (h4.2.2 h hh (ww_lbk h4 hh hu)).1
theorem ww_lnz {lv : Int32} {nx bk lp : Nat → Int32} (h4 : ww_S4 lv nx bk lp) {h : Nat} (hh : h < 6) (hu : ¬ lp h = 0) : bt (lp h) h = true := by
  obtain ⟨i, _, e⟩ := ww_nz (h4.1 h hh) hu
  exact ww_lhd h4 hh e
theorem ww_lcl {lv : Int32} {nx bk lp : Nat → Int32} (h4 : ww_S4 lv nx bk lp) {h a c : Nat} (hh : h < 6) (ha : bt lv a = true) (hac : bt (nx a) c = true) (hc : bt (lp h) c = true) (e : c ≠ h) : bt (lp h) a = true :=
  (h4.2.2 h hh (ww_lbk h4 hh hc)).2.2.1 a c ha hac hc e
/-- the head dominates the loop -/
theorem ww_ldm {lv : Int32} {nx dm fw bk lp : Nat → Int32} (h1 : ww_S1 lv nx) (h2 : ww_S2 lv nx dm) (h3 : ww_S3 lv nx dm fw bk) (h4 : ww_S4 lv nx bk lp) {h u : Nat} (hh : h < 6) (hu : bt (lp h) u = true) : bt lv u = true ∧ bt (dm u) h = true := by
  have hb := ww_lbk h4 hh hu
  refine (h4.2.2 h hh hb).2.2.2 (fun u => bt lv u = true ∧ bt (dm u) h = true) ?_ ?_ ?_ u hu
  · obtain ⟨a, _, ha⟩ := ww_nz (h3.2.1 h hh) hb
    have := (h3.2.2.2 a h hh).mp ha
    have hl := h1.2.2.1 a h this.1 this.2.1
    exact ⟨hl, (h2.2.2.2.2.1 h hl).1⟩
  · intro a ha
    have := (h3.2.2.2 a h hh).mp ha
    exact ⟨this.1, this.2.2⟩
  · intro a c ha hac hc hch
    refine ⟨ha, ?_⟩
    by_cases c0 : c = 0
    · have k := hc.2
      rw [c0] at k
      exact absurd (c0.trans (ww_d0 h2 k).symm) hch
    · rcases h2.2.2.2.2.2.1 a c h c0 ha hac hc.2 with q | q
      · exact absurd q.symm hch
      · exact q
/-- a forward edge leads to no head of a loop that it comes from -/
theorem ww_lfw {lv : Int32} {nx dm fw bk lp : Nat → Int32} (h1 : ww_S1 lv nx) (h2 : ww_S2 lv nx dm) (h3 : ww_S3 lv nx dm fw bk) (h4 : ww_S4 lv nx bk lp) {h a : Nat} (hh : h < 6) (ha : bt (lp h) a = true) : bt (fw a) h = false := by
  have := ww_ldm h1 h2 h3 h4 hh ha
  cases e : bt (fw a) h
  · rfl
  · have k := ((h3.2.2.1 a h (ww_sm_lt h1.1 this.1)).mp e).2.2
    rw [this.2] at k; exact k
/-- loops that share a block: one lies in the other -/
theorem ww_lin {lv : Int32} {nx dm fw bk lp : Nat → Int32} (h1 : ww_S1 lv nx) (h2 : ww_S2 lv nx dm) (h3 : ww_S3 lv nx dm fw bk) (h4 : ww_S4 lv nx bk lp) {g h u : Nat} (hg : g < 6) (hh : h < 6) (gh : g ≠ h) (ug : bt (lp g) u = true) (uh : bt (lp h) u = true) (dgh : bt (dm h) g = true) :
    ∀ x, bt (lp h) x = true → bt (lp g) x = true := by
  have hhl := (ww_ldm h1 h2 h3 h4 hh (ww_lhd h4 hh uh)).1
  have hgl := (ww_ldm h1 h2 h3 h4 hg (ww_lhd h4 hg ug)).1
  have no : bt (dm g) h = false := by
    cases e : bt (dm g) h
    · rfl
    · exact absurd (ww_das h1 h2 hhl dgh e) gh
  have hin : bt (lp g) h = true := by
    cases e : bt (lp g) h
    · have key := h1.2.2.2 (fun x => bt (lp g) x = true → bt (dm x) h = false) (by
        intro k
        cases q : bt (dm 0) h
        · rfl
        · have e1 := ww_d0 h2 q
          have e2 := ww_d0 h2 (ww_ldm h1 h2 h3 h4 hg k).2
          exact absurd (e2.trans e1.symm) gh) (by
        intro a c ha ih hac hc
        cases q : bt (dm c) h
        · rfl
        · have cg : c ≠ g := by intro z; rw [z, no] at q; exact absurd q (by decide)
          have ch : c ≠ h := by intro z; rw [z, e] at hc; exact absurd hc (by decide)
          have hag := ww_lcl h4 hg ha hac hc cg
          by_cases c0 : c = 0
          · rw [c0] at q; exact absurd (c0.trans (ww_d0 h2 q).symm) ch
          · rcases h2.2.2.2.2.2.1 a c h c0 ha hac q with r | r
            · exact absurd r.symm ch
            · rw [ih hag] at r; exact r.symm)
      have := key u (ww_ldm h1 h2 h3 h4 hg ug).1 ug
      rw [(ww_ldm h1 h2 h3 h4 hh uh).2] at this; exact absurd this (by decide)
    · rfl
  have hb := ww_lbk h4 hh uh
  intro x hx
  refine ((h4.2.2 h hh hb).2.2.2 (fun x => bt (lp g) x = true ∧ bt (dm x) h = true) ?_ ?_ ?_ x hx).1
  · exact ⟨hin, (h2.2.2.2.2.1 h hhl).1⟩
  · intro a ha
    have := (h3.2.2.2 a h hh).mp ha
    exact ⟨ww_lcl h4 hg this.1 this.2.1 hin (fun z => gh z.symm), this.2.2⟩
  · intro a c ha hac hc hch
    have cg : c ≠ g := by intro z; have := hc.2; rw [z, no] at this; exact absurd this (by decide)
    refine ⟨ww_lcl h4 hg ha hac hc.1 cg, ?_⟩
    by_cases c0 : c = 0
    · have k := hc.2
      rw [c0] at k; exact absurd (c0.trans (ww_d0 h2 k).symm) hch
    · rcases h2.2.2.2.2.2.1 a c h c0 ha hac hc.2 with r | r
      · exact absurd r.symm hch
      · exact r
theorem ww_lnest {lv : Int32} {nx dm fw bk lp : Nat → Int32} (h1 : ww_S1 lv nx) (h2 : ww_S2 lv nx dm) (h3 : ww_S3 lv nx dm fw bk) (h4 : ww_S4 lv nx bk lp) {g h u : Nat} (hg : g < 6) (hh : h < 6) (ug : bt (lp g) u = true) (uh : bt (lp h) u = true) :
    (∀ x, bt (lp h) x = true → bt (lp g) x = true) ∨ (∀ x, bt (lp g) x = true → bt (lp h) x = true) := by
  by_cases gh : g = h
  · rw [gh]; exact Or.inl (fun _ h => h)
  · have k1 := ww_ldm h1 h2 h3 h4 hg ug
    have k2 := ww_ldm h1 h2 h3 h4 hh uh
    rcases ww_dln h1 h2 k1.1 k1.2 k2.2 with d | d
    · exact Or.inl (ww_lin h1 h2 h3 h4 hg hh gh ug uh d)
    · exact Or.inr (ww_lin h1 h2 h3 h4 hh hg (fun z => gh z.symm) uh ug d)
/-- two loops that lie in one another have one head -/
theorem ww_luq {lv : Int32} {nx dm fw bk lp : Nat → Int32} (h1 : ww_S1 lv nx) (h2 : ww_S2 lv nx dm) (h3 : ww_S3 lv nx dm fw bk) (h4 : ww_S4 lv nx bk lp) {g h u : Nat} (hg : g < 6) (hh : h < 6) (ug : bt (lp g) u = true) (e1 : ∀ x, bt (lp h) x = true → bt (lp g) x = true) (e2 : ∀ x, bt (lp g) x = true → bt (lp h) x = true) : g = h := by
  have kg := ww_lhd h4 hg ug
  have kh := ww_lhd h4 hh (e2 u ug)
  exact ww_das h1 h2 (ww_ldm h1 h2 h3 h4 hh kh).1 (ww_ldm h1 h2 h3 h4 hg (e1 h kh)).2 (ww_ldm h1 h2 h3 h4 hh (e2 g kg)).2
/-- no loop of one block -/
theorem ww_lsz {lv : Int32} {nx dm fw bk lp : Nat → Int32} (h1 : ww_S1 lv nx) (h3 : ww_S3 lv nx dm fw bk) (h4 : ww_S4 lv nx bk lp) (ns : ∀ a, a < 6 → bt (nx a) a = false) {h : Nat} (hh : h < 6) (hu : ¬ lp h = 0) : 2 ≤ ww_sz (lp h) := by
  have kh := ww_lnz h4 hh hu
  have hb := ww_lbk h4 hh kh
  obtain ⟨a, ha6, ha⟩ := ww_nz (h3.2.1 h hh) hb
  have ka := (h4.2.2 h hh hb).2.1 a ha
  have ne : a ≠ h := by
    intro e
    have := ((h3.2.2.2 a h hh).mp ha).2.1
    rw [e, ns h hh] at this; exact absurd this (by decide)
  have s1 : 0 < ww_cn (fun i => decide (i = h)) 6 := ww_cn_pos hh (by simp)
  have s2 : ww_cn (fun i => decide (i = h)) 6 < ww_sz (lp h) := ww_cn_lt (i := a) (by
    intro i _ e
    have : i = h := by simpa using e
    rw [this]; exact kh) ha6 (by simp [ne]) ka
  omega
theorem ww_lszlt {lv : Int32} {nx dm fw bk lp : Nat → Int32} (h1 : ww_S1 lv nx) (h2 : ww_S2 lv nx dm) (h3 : ww_S3 lv nx dm fw bk) (h4 : ww_S4 lv nx bk lp) {g h : Nat} (hg : g < 6) (hh : h < 6) (gh : g ≠ h) (hu : ¬ lp g = 0) (e : ∀ x, bt (lp g) x = true → bt (lp h) x = true) : ww_sz (lp g) < ww_sz (lp h) := by
  have kg := ww_lnz h4 hg hu
  have le : ww_sz (lp g) ≤ ww_sz (lp h) := ww_cn_mono (fun i _ => e i)
  by_cases q : ww_sz (lp g) = ww_sz (lp h)
  · exact absurd (ww_luq h1 h2 h3 h4 hg hh kg (fun x hx => ww_cn_eq (fun i _ => e i) q (ww_sm_lt (h4.1 h hh) hx) hx) e) gh
  · omega
end
section
/-! the order -/
theorem ww_bef_bits (fw : Nat → Int32) (b u : Nat) : bt (ww_befF fw b) u = true ↔ u < 6 ∧ bt (fw u) b = true := by
  have main := ww_ind (fun i s => bt s u = true ↔ u < i ∧ bt (fw u) b = true) (ww_bef1 fw b) 6 (by
    intro i s hi h
    unfold ww_bef1
    by_cases g : bt (fw i) b = true
    · rw [if_pos g, b_or, ww_one hi, Bool.or_eq_true, decide_eq_true_iff, h]
      constructor
      · intro k
        rcases k with k | k
        · exact ⟨by omega, k.2⟩
        · rw [k]; exact ⟨by omega, g⟩
      · intro ⟨k1, k2⟩
        by_cases e : u = i
        · exact Or.inr e
        · exact Or.inl ⟨by omega, k2⟩
    · rw [if_neg g, h]
      constructor
      · intro ⟨k1, k2⟩; exact ⟨by omega, k2⟩
      · intro ⟨k1, k2⟩
        have e : u ≠ i := by intro e; rw [e] at k2; exact g k2
        exact ⟨by omega, k2⟩) 6 0 0 rfl
  refine main ⟨fun h => ?_, fun h => absurd h.1 (by omega)⟩
  rw [b_0] at h; exact absurd h (by decide)
theorem ww_bef_sm (fw : Nat → Int32) (b : Nat) : ww_sm (ww_befF fw b) := by
  intro i hi
  cases e : bt (ww_befF fw b) i
  · rfl
  · have := ((ww_bef_bits fw b i).mp e).1; omega
def ww_OI (lv : Int32) (fw : Nat → Int32) (s : Int32 × Nat × (Nat → Int32)) : Prop :=
  ww_sm s.1 ∧ (∀ b, bt s.1 b = true → bt lv b = true) ∧ s.2.1 = ww_sz s.1 ∧
  (∀ b, bt s.1 b = true → ∃ k, k < s.2.1 ∧ s.2.2 k = nI b) ∧
  (∀ k, k < s.2.1 → ∃ b, b < 6 ∧ s.2.2 k = nI b ∧ bt s.1 b = true) ∧
  (∀ j k, j < s.2.1 → k < s.2.1 → s.2.2 j = s.2.2 k → j = k) ∧
  (∀ k a, k < s.2.1 → a < 6 → bt (fw a) (s.2.2 k).toNatClampNeg = true → ∃ j, j < k ∧ s.2.2 j = nI a)
theorem ww_OI_room {lv : Int32} {fw : Nat → Int32} {s : Int32 × Nat × (Nat → Int32)} (h : ww_OI lv fw s) {b : Nat} (hb : b < 6) (k : bt s.1 b = false) : s.2.1 < 6 := by
  rw [h.2.2.1]; exact ww_cn_room hb k
theorem ww_OI_step {lv : Int32} {fw : Nat → Int32} {s : Int32 × Nat × (Nat → Int32)} {b : Nat} (hb : b < 6) (h : ww_OI lv fw s) : ww_OI lv fw (ww_so1 lv fw b s) := by
  unfold ww_so1
  by_cases g : bt lv b = true ∧ bt s.1 b = false ∧ (ww_befF fw b &&& (s.1 ^^^ (-1))) = 0
  · rw [if_pos g, ww_n8 b hb]
    have room := ww_OI_room h hb g.2.1
    obtain ⟨p1, p2, p3, p4, p5, p6, p7⟩ := h
    have pre := (ww_sub (ww_bef_sm fw b)).mp g.2.2
    have nob : ∀ k, k < s.2.1 → s.2.2 k ≠ nI b := by
      intro k hk e
      obtain ⟨c, hc, e2, e3⟩ := p5 k hk
      rw [e] at e2
      have : b = c := (nI_eq (by omega) (by omega)).mp e2
      rw [← this, g.2.1] at e3; exact absurd e3 (by decide)
    refine ⟨ww_sm_or p1 (ww_sm_one hb), ?_, ?_, ?_, ?_, ?_, ?_⟩
    · intro c hc
      rw [b_or, ww_one hb, Bool.or_eq_true, decide_eq_true_iff] at hc
      rcases hc with q | q
      · exact p2 c q
      · rw [q]; exact g.1
    · show s.2.1 + 1 = ww_sz _
      rw [p3]; exact (ww_cn_or hb g.2.1).symm
    · intro c hc
      rw [b_or, ww_one hb, Bool.or_eq_true, decide_eq_true_iff] at hc
      show ∃ k, k < s.2.1 + 1 ∧ upd s.2.2 s.2.1 (nI b) k = nI c
      rcases hc with q | q
      · obtain ⟨k, k1, k2⟩ := p4 c q
        exact ⟨k, by omega, by rw [pk_un (by omega)]; exact k2⟩
      · exact ⟨s.2.1, by omega, by rw [pk_us, q]⟩
    · intro k hk
      show ∃ c, c < 6 ∧ upd s.2.2 s.2.1 (nI b) k = nI c ∧ bt (s.1 ||| _) c = true
      by_cases e : k = s.2.1
      · refine ⟨b, hb, by rw [e, pk_us], ?_⟩
        rw [b_or, ww_one hb]; simp
      · have hk' : k < s.2.1 := by have : k < s.2.1 + 1 := hk; omega
        obtain ⟨c, c1, c2, c3⟩ := p5 k hk'
        exact ⟨c, c1, by rw [pk_un e]; exact c2, by rw [b_or, c3]; rfl⟩
    · intro j k hj hk e
      have hj' : j < s.2.1 + 1 := hj
      have hk' : k < s.2.1 + 1 := hk
      have e' : upd s.2.2 s.2.1 (nI b) j = upd s.2.2 s.2.1 (nI b) k := e
      by_cases ej : j = s.2.1
      · by_cases ek : k = s.2.1
        · omega
        · rw [ej, pk_us, pk_un ek] at e'
          exact absurd e'.symm (nob k (by omega))
      · by_cases ek : k = s.2.1
        · rw [ek, pk_us, pk_un ej] at e'
          exact absurd e' (nob j (by omega))
        · rw [pk_un ej, pk_un ek] at e'
          exact p6 j k (by omega) (by omega) e'
    · intro k a hk ha hf
      have hk' : k < s.2.1 + 1 := hk
      have hf' : bt (fw a) (upd s.2.2 s.2.1 (nI b) k).toNatClampNeg = true := hf
      show ∃ j, j < k ∧ upd s.2.2 s.2.1 (nI b) j = nI a
      by_cases ek : k = s.2.1
      · rw [ek, pk_us, nI_clamp (by omega)] at hf'
        obtain ⟨j, j1, j2⟩ := p4 a (pre a ((ww_bef_bits fw b a).mpr ⟨ha, hf'⟩))
        exact ⟨j, by omega, by rw [pk_un (by omega)]; exact j2⟩
      · rw [pk_un ek] at hf'
        obtain ⟨j, j1, j2⟩ := p7 k a (by omega) ha hf'
        exact ⟨j, j1, by rw [pk_un (by omega)]; exact j2⟩
  · rw [if_neg g]; exact h
theorem ww_OI_init (lv : Int32) (fw od : Nat → Int32) : ww_OI lv fw (0, 0, od) := by
  have z : ∀ b, bt 0 b = true → False := fun b h => by rw [b_0] at h; exact absurd h (by decide)
  refine ⟨ww_sm_0, fun b h => (z b h).elim, ?_, fun b h => (z b h).elim, fun k h => ?_, fun j k h => ?_, fun k a h => ?_⟩
  · show 0 = ww_sz 0
    decide +kernel
  · exact absurd h (by simp)
  · exact absurd h (by simp)
  · exact absurd h (by simp)
theorem ww_so_S5 {lv : Int32} {fw : Nat → Int32} (od : Nat → Int32) (hl : ww_sm lv) : ww_S5 lv fw (ww_soF lv fw od).2.2 (ww_soF lv fw od).2.1 := by
  have h : ww_OI lv fw (ww_soF lv fw od) := ww_keep _ (ww_OI lv fw) 6 (fun _ s _ h => ww_keep _ (ww_OI lv fw) 6 (fun b s hb h => ww_OI_step hb h) 6 0 s rfl h) 6 0 _ rfl (ww_OI_init lv fw od)
  obtain ⟨p1, p2, p3, p4, p5, p6, p7⟩ := h
  refine ⟨fun k hk => ?_, p6, p7, ?_, ?_⟩
  · obtain ⟨b, b1, b2, b3⟩ := p5 k hk
    exact ⟨b, b1, b2, p2 b b3⟩
  · rw [p3]; exact ww_cn_le _ 6
  · intro e b hb
    rw [p3] at e
    refine p4 b ?_
    exact ww_cn_eq (fun i _ => p2 i) e (ww_sm_lt hl hb) hb
/-! the heads -/
def ww_HT (lp : Nat → Int32) (z h x : Nat) : Prop := ¬ lp x = 0 ∧ (ww_sz (lp x) < z ∨ (ww_sz (lp x) = z ∧ x < h))
def ww_HB (lp : Nat → Int32) (z h x : Nat) : Bool := !decide (lp x = 0) && (decide (ww_sz (lp x) < z) || (decide (ww_sz (lp x) = z) && decide (x < h)))
theorem ww_HB_iff (lp : Nat → Int32) (z h x : Nat) : ww_HB lp z h x = true ↔ ww_HT lp z h x := by
  unfold ww_HB ww_HT
  simp
def ww_HI (lp : Nat → Int32) (z h : Nat) (s : Nat × (Nat → Int32)) : Prop :=
  s.1 = ww_cn (ww_HB lp z h) 6 ∧ (∀ x, x < 6 → ww_HT lp z h x → ∃ k, k < s.1 ∧ s.2 k = nI x) ∧
  (∀ k, k < s.1 → ∃ x, x < 6 ∧ s.2 k = nI x ∧ ww_HT lp z h x) ∧
  (∀ j k, j < k → k < s.1 → ww_sz (lp (s.2 j).toNatClampNeg) ≤ ww_sz (lp (s.2 k).toNatClampNeg))
theorem ww_HI_room {lp : Nat → Int32} {z h : Nat} {s : Nat × (Nat → Int32)} (hh : h < 6) (k : ww_HI lp z h s) (e : ww_sz (lp h) = z) : s.1 < 6 := by
  rw [k.1]
  refine ww_cn_room hh ?_
  cases g : ww_HB lp z h h
  · rfl
  · have := ((ww_HB_iff lp z h h).mp g).2; omega
theorem ww_HI_step {lp : Nat → Int32} {z h : Nat} {s : Nat × (Nat → Int32)} (hh : h < 6) (k : ww_HI lp z h s) : ww_HI lp z (h + 1) (ww_lh1 lp z h s) := by
  unfold ww_lh1
  by_cases g : ¬ lp h = 0 ∧ ww_sz (lp h) = z
  · rw [if_pos g, ww_n8 h hh]
    have room := ww_HI_room hh k g.2
    obtain ⟨p1, p2, p3, p4⟩ := k
    have eq : ∀ x, ww_HT lp z (h + 1) x ↔ ww_HT lp z h x ∨ x = h := by
      intro x
      unfold ww_HT
      constructor
      · intro ⟨k1, k2⟩
        by_cases e : x = h
        · exact Or.inr e
        · exact Or.inl ⟨k1, by omega⟩
      · intro q
        rcases q with q | q
        · exact ⟨q.1, by omega⟩
        · rw [q]; exact ⟨g.1, Or.inr ⟨g.2, by omega⟩⟩
    refine ⟨?_, ?_, ?_, ?_⟩
    · show s.1 + 1 = ww_cn (ww_HB lp z (h + 1)) 6
      rw [p1]
      refine (ww_cn_add hh ?_ ?_ ?_).symm
      · cases q : ww_HB lp z h h
        · rfl
        · have := ((ww_HB_iff lp z h h).mp q).2; omega
      · exact (ww_HB_iff lp z (h + 1) h).mpr ((eq h).mpr (Or.inr rfl))
      · intro i _ ne
        cases q : ww_HB lp z h i
        · cases r : ww_HB lp z (h + 1) i
          · rfl
          · rcases (eq i).mp ((ww_HB_iff lp z (h + 1) i).mp r) with t | t
            · rw [(ww_HB_iff lp z h i).mpr t] at q; exact absurd q (by decide)
            · exact absurd t ne
        · exact (ww_HB_iff lp z (h + 1) i).mpr ((eq i).mpr (Or.inl ((ww_HB_iff lp z h i).mp q)))
    · intro x hx q
      show ∃ k, k < s.1 + 1 ∧ upd s.2 s.1 (nI h) k = nI x
      rcases (eq x).mp q with t | t
      · obtain ⟨k, k1, k2⟩ := p2 x hx t
        exact ⟨k, by omega, by rw [pk_un (by omega)]; exact k2⟩
      · exact ⟨s.1, by omega, by rw [pk_us, t]⟩
    · intro k hk
      have hk' : k < s.1 + 1 := hk
      show ∃ x, x < 6 ∧ upd s.2 s.1 (nI h) k = nI x ∧ _
      by_cases e : k = s.1
      · exact ⟨h, hh, by rw [e, pk_us], (eq h).mpr (Or.inr rfl)⟩
      · obtain ⟨x, x1, x2, x3⟩ := p3 k (by omega)
        exact ⟨x, x1, by rw [pk_un e]; exact x2, (eq x).mpr (Or.inl x3)⟩
    · intro j k hj hk
      have hk' : k < s.1 + 1 := hk
      show ww_sz (lp (upd s.2 s.1 (nI h) j).toNatClampNeg) ≤ ww_sz (lp (upd s.2 s.1 (nI h) k).toNatClampNeg)
      by_cases e : k = s.1
      · rw [e, pk_us, pk_un (by omega), nI_clamp (by omega)]
        obtain ⟨x, x1, x2, x3⟩ := p3 j (by omega)
        rw [x2, nI_clamp (by omega)]
        have := x3.2
        omega
      · rw [pk_un e, pk_un (by omega)]
        exact p4 j k hj (by omega)
  · rw [if_neg g]
    have eq : ∀ x, ww_HT lp z (h + 1) x ↔ ww_HT lp z h x := by
      intro x
      unfold ww_HT
      constructor
      · intro ⟨k1, k2⟩
        refine ⟨k1, ?_⟩
        by_cases e : x = h
        · rw [e] at k1 k2 ⊢
          have : ¬ ww_sz (lp h) = z := fun q => g ⟨k1, q⟩
          omega
        · omega
      · intro ⟨k1, k2⟩; exact ⟨k1, by omega⟩
    obtain ⟨p1, p2, p3, p4⟩ := k
    refine ⟨?_, fun x hx q => p2 x hx ((eq x).mp q), fun k hk => ?_, p4⟩
    · rw [p1]
      refine ww_cn_cong (fun i _ => ?_)
      cases q : ww_HB lp z h i
      · cases r : ww_HB lp z (h + 1) i
        · rfl
        · rw [(ww_HB_iff lp z h i).mpr ((eq i).mp ((ww_HB_iff lp z (h + 1) i).mp r))] at q; exact absurd q (by decide)
      · exact ((ww_HB_iff lp z (h + 1) i).mpr ((eq i).mpr ((ww_HB_iff lp z h i).mp q))).symm
    · obtain ⟨x, x1, x2, x3⟩ := p3 k hk
      exact ⟨x, x1, x2, (eq x).mpr x3⟩
theorem ww_HI_next {lp : Nat → Int32} {z : Nat} {s : Nat × (Nat → Int32)} (k : ww_HI lp z 6 s) : ww_HI lp (z + 1) 0 s := by
  have eq : ∀ x, x < 6 → (ww_HT lp (z + 1) 0 x ↔ ww_HT lp z 6 x) := by
    intro x hx
    unfold ww_HT
    constructor
    · intro ⟨k1, k2⟩; exact ⟨k1, by omega⟩
    · intro ⟨k1, k2⟩; exact ⟨k1, by omega⟩
  obtain ⟨p1, p2, p3, p4⟩ := k
  refine ⟨?_, fun x hx q => p2 x hx ((eq x hx).mp q), fun k hk => ?_, p4⟩
  · rw [p1]
    refine ww_cn_cong (fun i hi => ?_)
    cases q : ww_HB lp z 6 i
    · cases r : ww_HB lp (z + 1) 0 i
      · rfl
      · rw [(ww_HB_iff lp z 6 i).mpr ((eq i hi).mp ((ww_HB_iff lp (z + 1) 0 i).mp r))] at q; exact absurd q (by decide)
    · exact ((ww_HB_iff lp (z + 1) 0 i).mpr ((eq i hi).mpr ((ww_HB_iff lp z 6 i).mp q))).symm
  · obtain ⟨x, x1, x2, x3⟩ := p3 k hk
    exact ⟨x, x1, x2, (eq x x1).mpr x3⟩
theorem ww_HI_round {lp : Nat → Int32} {z : Nat} {s : Nat × (Nat → Int32)} (k : ww_HI lp z 0 s) : ww_HI lp (z + 1) 0 (ww_it (ww_lh1 lp z) 0 6 s) :=
  ww_HI_next (ww_ind (fun h s => ww_HI lp z h s) (ww_lh1 lp z) 6 (fun h s hh k => ww_HI_step hh k) 6 0 s rfl k)
theorem ww_HI_init {lp : Nat → Int32} (hd : Nat → Int32) (hs : ∀ h, h < 6 → ww_sm (lp h)) : ww_HI lp 1 0 (0, hd) := by
  have no : ∀ x, x < 6 → ¬ ww_HT lp 1 0 x := by
    intro x hx ⟨k1, k2⟩
    obtain ⟨i, hi, e⟩ := ww_nz (hs x hx) k1
    have : 0 < ww_sz (lp x) := ww_cn_pos hi e
    omega
  refine ⟨?_, fun x hx q => absurd q (no x hx), fun k hk => absurd hk (by simp), fun j k _ hk => absurd hk (by simp)⟩
  show 0 = _
  have : ww_cn (ww_HB lp 1 0) 6 = ww_cn (fun _ => false) 6 := ww_cn_cong (fun i hi => by
    cases q : ww_HB lp 1 0 i
    · rfl
    · exact absurd ((ww_HB_iff lp 1 0 i).mp q) (no i hi))
  rw [this]; rfl
theorem ww_lh_S6 {lp : Nat → Int32} (hd : Nat → Int32) (hs : ∀ h, h < 6 → ww_sm (lp h)) : ww_S6 lp (ww_lhF lp hd).2 (ww_lhF lp hd).1 := by
  have h : ww_HI lp 7 0 (ww_lhF lp hd) := ww_ind2 (fun z s => ww_HI lp z 0 s) (fun z s => ww_it (ww_lh1 lp z) 0 6 s) 1 7 (fun z s _ _ k => ww_HI_round k) 6 1 (0, hd) (Nat.le_refl 1) rfl (ww_HI_init hd hs)
  obtain ⟨p1, p2, p3, p4⟩ := h
  refine ⟨fun k hk => ?_, fun x hx k => ?_, p4, ?_⟩
  · obtain ⟨x, x1, x2, x3⟩ := p3 k hk
    exact ⟨x, x1, x2, x3.1⟩
  · exact p2 x hx ⟨k, Or.inl (by have := ww_cn_le (bt (lp x)) 6; show ww_cn (bt (lp x)) 6 < 7; omega)⟩
  · rw [p1]; exact ww_cn_le _ 6
end
section
/-! the shape as a whole; places in the order -/
def ww_Sh (lv : Int32) (n m : Nat) (nx dm fw bk lp od hd : Nat → Int32) : Prop :=
  (∀ a, a < 6 → ww_sm (nx a)) ∧ (∀ a, a < 6 → bt (nx a) a = false) ∧ ww_S1 lv nx ∧ ww_S2 lv nx dm ∧ ww_S3 lv nx dm fw bk ∧ ww_S4 lv nx bk lp ∧ ww_S5 lv fw od n ∧ ww_S6 lp hd m
def ww_ps (od : Nat → Int32) (c : Nat) : Nat → Nat
  | 0 => 0
  | n + 1 => if od n = nI c then n else ww_ps od c n
theorem ww_ps_at {od : Nat → Int32} {c k : Nat} : ∀ n, (∀ i j, i < n → j < n → od i = od j → i = j) → k < n → od k = nI c → ww_ps od c n = k := by
  intro n
  induction n with
  | zero => intro _ h; omega
  | succ n ih =>
    intro inj hk e
    show (if od n = nI c then n else ww_ps od c n) = k
    by_cases g : od n = nI c
    · rw [if_pos g]
      exact inj n k (by omega) hk (g.trans e.symm)
    · rw [if_neg g]
      have : k ≠ n := by intro z; rw [z] at e; exact g e
      exact ih (fun i j hi hj => inj i j (by omega) (by omega)) (by omega) e
theorem ww_R1 {lv : Int32} {n m : Nat} {nx dm fw bk lp od hd : Nat → Int32} (h : ww_Sh lv n m nx dm fw bk lp od hd) (r : n = ww_sz lv) {c : Nat} (hc : bt lv c = true) : ww_ps od c n < n ∧ od (ww_ps od c n) = nI c := by
  obtain ⟨_, _, h1, h2, h3, h4, h5, h6⟩ := h
  obtain ⟨k, k1, k2⟩ := h5.2.2.2.2 r c hc
  rw [ww_ps_at n h5.2.1 k1 k2]; exact ⟨k1, k2⟩
theorem ww_R2 {lv : Int32} {n m : Nat} {nx dm fw bk lp od hd : Nat → Int32} (h : ww_Sh lv n m nx dm fw bk lp od hd) (r : n = ww_sz lv) {a c : Nat} (ha : a < 6) (hac : bt (fw a) c = true) : ww_ps od a n < ww_ps od c n := by
  have hh := h
  obtain ⟨_, _, h1, h2, h3, h4, h5, h6⟩ := h
  have k := (h3.2.2.1 a c ha).mp hac
  have hc := h1.2.2.1 a c k.1 k.2.1
  have c6 := ww_sm_lt h1.1 hc
  obtain ⟨p1, p2⟩ := ww_R1 hh r hc
  obtain ⟨j, j1, j2⟩ := h5.2.2.1 _ a p1 ha (by rw [p2, nI_clamp (by omega)]; exact hac)
  rw [ww_ps_at n h5.2.1 (by omega : j < n) j2]; exact j1
theorem ww_R3 {lv : Int32} {n m : Nat} {nx dm fw bk lp od hd : Nat → Int32} (h : ww_Sh lv n m nx dm fw bk lp od hd) (r : n = ww_sz lv) {g : Nat} : ∀ k c, ww_ps od c n ≤ k → bt lv c = true → bt (dm c) g = true → ww_ps od g n ≤ ww_ps od c n := by
  have hh := h
  obtain ⟨_, _, h1, h2, h3, h4, h5, h6⟩ := h
  intro k
  induction k with
  | zero =>
    intro c hk hc hg
    by_cases e : g = c
    · rw [e]; exact Nat.le_refl _
    · have c0 : c ≠ 0 := by intro z; rw [z] at hg; exact e ((ww_d0 h2 hg).trans z.symm)
      obtain ⟨a, a1, a2, a3⟩ := ww_fpred h1 h2 hc c0
      have := ww_R2 hh r (ww_sm_lt h1.1 a1) ((h3.2.2.1 a c (ww_sm_lt h1.1 a1)).mpr ⟨a1, a2, a3⟩)
      omega
  | succ k ih =>
    intro c hk hc hg
    by_cases e : g = c
    · rw [e]; exact Nat.le_refl _
    · have c0 : c ≠ 0 := by intro z; rw [z] at hg; exact e ((ww_d0 h2 hg).trans z.symm)
      obtain ⟨a, a1, a2, a3⟩ := ww_fpred h1 h2 hc c0
      have lt := ww_R2 hh r (ww_sm_lt h1.1 a1) ((h3.2.2.1 a c (ww_sm_lt h1.1 a1)).mpr ⟨a1, a2, a3⟩)
      rcases h2.2.2.2.2.2.1 a c g c0 a1 a2 hg with q | q
      · exact absurd q e
      · have := ih a (by omega) a1 q
        omega
theorem ww_fwl {lv : Int32} {n m : Nat} {nx dm fw bk lp od hd : Nat → Int32} (h : ww_Sh lv n m nx dm fw bk lp od hd) {a c : Nat} (ha : a < 6) (hac : bt (fw a) c = true) : bt lv a = true ∧ bt (nx a) c = true ∧ bt lv c = true := by
  obtain ⟨_, _, h1, h2, h3, h4, h5, h6⟩ := h
  have k := (h3.2.2.1 a c ha).mp hac
  exact ⟨k.1, k.2.1, h1.2.2.1 a c k.1 k.2.1⟩
/-! the largest loop -/
def ww_LL1 (lp hd : Nat → Int32) (b : Nat) (part head : Int32) (k : Nat) (x : Int32) : Int32 :=
  if ¬ hd k = head ∧ bt (lp (hd k).toNatClampNeg) b = true ∧ (lp (hd k).toNatClampNeg &&& (part ^^^ (-1))) = 0 then hd k else x
def ww_LL (lp hd : Nat → Int32) (m : Nat) (b : Nat) (part head : Int32) : Int32 := ww_it (ww_LL1 lp hd b part head) 0 m (-1)
/-- a loop within the part that isn't the one at hand -/
def ww_Lp (lp : Nat → Int32) (part head : Int32) (g : Nat) : Prop := g < 6 ∧ ¬ lp g = 0 ∧ ¬ nI g = head ∧ ∀ x, bt (lp g) x = true → bt part x = true
theorem ww_LL_spec {lv : Int32} {n m : Nat} {nx dm fw bk lp od hd : Nat → Int32} (h : ww_Sh lv n m nx dm fw bk lp od hd) (b : Nat) (part head : Int32) :
    (ww_LL lp hd m b part head = -1 ∧ ∀ g, ww_Lp lp part head g → bt (lp g) b = true → False) ∨
    ∃ g, ww_LL lp hd m b part head = nI g ∧ ww_Lp lp part head g ∧ bt (lp g) b = true ∧ ∀ g', ww_Lp lp part head g' → bt (lp g') b = true → ∀ x, bt (lp g') x = true → bt (lp g) x = true := by
  obtain ⟨_, _, h1, h2, h3, h4, h5, h6⟩ := h
  have main := ww_ind (fun k x => (x = -1 ∧ ∀ j g, j < k → hd j = nI g → ww_Lp lp part head g → bt (lp g) b = true → False) ∨
    ∃ g, x = nI g ∧ ww_Lp lp part head g ∧ bt (lp g) b = true ∧ ∀ j g', j < k → hd j = nI g' → ww_Lp lp part head g' → bt (lp g') b = true → ww_sz (lp g') ≤ ww_sz (lp g)) (ww_LL1 lp hd b part head) m (by
    intro k x hk ih
    obtain ⟨q, q1, q2, q3⟩ := h6.1 k hk
    have cl : (hd k).toNatClampNeg = q := by rw [q2]; exact nI_clamp (by omega)
    have cond : (¬ hd k = head ∧ bt (lp (hd k).toNatClampNeg) b = true ∧ (lp (hd k).toNatClampNeg &&& (part ^^^ (-1))) = 0) ↔ (ww_Lp lp part head q ∧ bt (lp q) b = true) := by
      rw [cl, ww_sub (h4.1 q q1)]
      constructor
      · intro ⟨e1, e2, e3⟩
        exact ⟨⟨q1, q3, by rw [← q2]; exact e1, e3⟩, e2⟩
      · intro ⟨⟨_, _, e1, e3⟩, e2⟩
        exact ⟨by rw [q2]; exact e1, e2, e3⟩
    unfold ww_LL1
    by_cases c : ¬ hd k = head ∧ bt (lp (hd k).toNatClampNeg) b = true ∧ (lp (hd k).toNatClampNeg &&& (part ^^^ (-1))) = 0
    · rw [if_pos c]
      have cc := cond.mp c
      refine Or.inr ⟨q, q2, cc.1, cc.2, fun j g' hj e k1 k2 => ?_⟩
      by_cases ej : j = k
      · rw [ej, q2] at e
        have : q = g' := (nI_eq (by omega) (by have := k1.1; omega)).mp e
        rw [this]; exact Nat.le_refl _
      · have := h6.2.2.1 j k (by omega) hk
        rw [cl, e, nI_clamp (by have := k1.1; omega)] at this
        exact this
    · rw [if_neg c]
      have no : ∀ g', hd k = nI g' → ww_Lp lp part head g' → bt (lp g') b = true → False := by
        intro g' e k1 k2
        rw [q2] at e
        have : q = g' := (nI_eq (by omega) (by have := k1.1; omega)).mp e
        exact c (cond.mpr (by rw [this]; exact ⟨k1, k2⟩))
      rcases ih with ⟨i1, i2⟩ | ⟨g, i1, i2, i3, i4⟩
      · refine Or.inl ⟨i1, fun j g' hj e k1 k2 => ?_⟩
        by_cases ej : j = k
        · rw [ej] at e; exact no g' e k1 k2
        · exact i2 j g' (by omega) e k1 k2
      · refine Or.inr ⟨g, i1, i2, i3, fun j g' hj e k1 k2 => ?_⟩
        by_cases ej : j = k
        · rw [ej] at e; exact (no g' e k1 k2).elim
        · exact i4 j g' (by omega) e k1 k2) m 0 (-1) (by omega) (Or.inl ⟨rfl, fun j g hj => absurd hj (by omega)⟩)
  rcases main with ⟨i1, i2⟩ | ⟨g, i1, i2, i3, i4⟩
  · refine Or.inl ⟨i1, fun g k1 k2 => ?_⟩
    obtain ⟨j, j1, j2⟩ := h6.2.1 g k1.1 k1.2.1
    exact i2 j g j1 j2 k1 k2
  · refine Or.inr ⟨g, i1, i2, i3, fun g' k1 k2 => ?_⟩
    obtain ⟨j, j1, j2⟩ := h6.2.1 g' k1.1 k1.2.1
    have le := i4 j g' j1 j2 k1 k2
    rcases ww_lnest h1 h2 h3 h4 i2.1 k1.1 i3 k2 with d | d
    · exact d
    · have le2 : ww_sz (lp g) ≤ ww_sz (lp g') := ww_cn_mono (fun i _ => d i)
      have eq : ww_cn (bt (lp g)) 6 = ww_cn (bt (lp g')) 6 := Nat.le_antisymm le2 le
      exact fun x hx => ww_cn_eq (fun i _ => d i) eq (ww_sm_lt (h4.1 g' k1.1) hx) hx
/-- where one comes in: the block, or the head of the largest loop around it -/
def ww_ent (l : Int32) (c : Nat) : Nat := if l = -1 then c else l.toNatClampNeg
theorem ww_m1n {g : Nat} (hg : g < 6) : ¬ nI g = -1 := by
  intro e
  have := nI_pos (n := g) (by omega)
  rw [e] at this
  exact this (by decide)
theorem ww_ent_m {c : Nat} : ww_ent (-1) c = c := if_pos rfl
theorem ww_ent_g {g c : Nat} (hg : g < 6) : ww_ent (nI g) c = g := by
  unfold ww_ent
  rw [if_neg (ww_m1n hg), nI_clamp (by omega)]
/-- the largest loop around the head of a largest loop is that loop -/
theorem ww_LL_head {lv : Int32} {n m : Nat} {nx dm fw bk lp od hd : Nat → Int32} (h : ww_Sh lv n m nx dm fw bk lp od hd) {b g : Nat} {part head : Int32} (hg : g < 6) (e : ww_LL lp hd m b part head = nI g) : ww_LL lp hd m g part head = nI g := by
  have hh := h
  obtain ⟨_, _, h1, h2, h3, h4, h5, h6⟩ := h
  rcases ww_LL_spec hh b part head with ⟨i1, _⟩ | ⟨g1, i1, i2, i3, i4⟩
  · rw [i1] at e; exact absurd e.symm (ww_m1n hg)
  · have e1 : g1 = g := (nI_eq (by have := i2.1; omega) (by omega)).mp (i1.symm.trans e)
    subst e1
    have gg := ww_lhd h4 hg i3
    rcases ww_LL_spec hh g1 part head with ⟨j1, j2⟩ | ⟨g2, j1, j2, j3, j4⟩
    · exact (j2 g1 i2 gg).elim
    · have s1 := j4 g1 i2 gg
      have s2 := i4 g2 j2 (s1 b i3)
      rw [j1, ww_luq h1 h2 h3 h4 hg j2.1 i3 s2 s1]
end
section
/-! sums of Int32 that don't run over -/
theorem ww_add {x y : Int32} (h1 : -2147483648 ≤ x.toInt + y.toInt) (h2 : x.toInt + y.toInt < 2147483648) : (x + y).toInt = x.toInt + y.toInt := by
  rw [Int32.toInt_add]
  exact Int.bmod_eq_of_le (by omega) (by omega)
theorem ww_far : (-1000000 : Int32).toInt = -1000000 := by decide
theorem ww_z0 : (0 : Int32).toInt = 0 := by decide
theorem ww_nfar {x : Int32} (h : 0 ≤ x.toInt) : ¬ x ≤ -1000000 := by
  rw [Int32.le_iff_toInt_le, ww_far]; omega
/-! the functions of the weights -/
def ww_lift (r : Nat → Int32) (b : Nat) (x : Int32) : Nat → Int32 := if x ≤ r b then r else upd r b x
def ww_com1 (T : Nat → Nat → Int32) (g : Nat) (so : Int32) (c : Nat) (r : Nat → Int32) : Nat → Int32 := if T g c ≤ -1000000 then r else ww_lift r c (so + T g c)
def ww_come (w : Nat → Int32) (T : Nat → Nat → Int32) (b : Nat) (head so : Int32) (r : Nat → Int32) : Nat → Int32 :=
  if 0 ≤ head then ww_it (ww_com1 T head.toNatClampNeg so) 0 6 r else ww_lift r b (so + w b)
def ww_step (w : Nat → Int32) (T : Nat → Nat → Int32) (a b : Nat) (fr to : Int32) (r : Nat → Int32) : Nat → Int32 :=
  if fr < 0 ∨ ¬ fr = to then ww_come w T b to (r a) r else r
def ww_pas1 (lp hd : Nat → Int32) (m : Nat) (fw w : Nat → Int32) (T : Nat → Nat → Int32) (part head : Int32) (a : Nat) (fr : Int32) (b : Nat) (r : Nat → Int32) : Nat → Int32 :=
  if bt (fw a &&& part) b = true then ww_step w T a b fr (ww_LL lp hd m b part head) r else r
def ww_pas2 (lp hd : Nat → Int32) (m : Nat) (fw od w : Nat → Int32) (T : Nat → Nat → Int32) (part head : Int32) (k : Nat) (r : Nat → Int32) : Nat → Int32 :=
  if bt part (od k).toNatClampNeg = true ∧ ¬ r (od k).toNatClampNeg ≤ -1000000 then
    ww_it (ww_pas1 lp hd m fw w T part head (od k).toNatClampNeg (ww_LL lp hd m (od k).toNatClampNeg part head)) 0 6 r else r
def ww_pass (lp hd : Nat → Int32) (m : Nat) (fw od : Nat → Int32) (n : Nat) (w : Nat → Int32) (T : Nat → Nat → Int32) (part head : Int32) (r : Nat → Int32) : Nat → Int32 :=
  ww_it (ww_pas2 lp hd m fw od w T part head) 0 n r
/-- the values: far, or of a block of the part, between 0 and u -/
def ww_V (part : Int32) (u : Nat → Int) (r : Nat → Int32) : Prop := ∀ c, c < 6 → r c = -1000000 ∨ (bt part c = true ∧ 0 ≤ (r c).toInt ∧ (r c).toInt ≤ u c)
theorem ww_lift_V {part : Int32} {u : Nat → Int} {r : Nat → Int32} {b : Nat} {x : Int32} (h : ww_V part u r) (hb : bt part b = true) (h0 : 0 ≤ x.toInt) (hu : x.toInt ≤ u b) : ww_V part u (ww_lift r b x) := by
  unfold ww_lift
  by_cases e : x ≤ r b
  · rw [if_pos e]; exact h
  · rw [if_neg e]
    intro c hc
    by_cases g : c = b
    · rw [g, pk_us]; exact Or.inr ⟨hb, h0, hu⟩
    · rw [pk_un g]; exact h c hc
theorem ww_lift_mono (r : Nat → Int32) (b : Nat) (x : Int32) (c : Nat) : (r c).toInt ≤ (ww_lift r b x c).toInt := by
  unfold ww_lift
  by_cases e : x ≤ r b
  · rw [if_pos e]; exact Int.le_refl _
  · rw [if_neg e]
    rw [Int32.le_iff_toInt_le] at e
    by_cases g : c = b
    · rw [g, pk_us]; omega
    · rw [pk_un g]; exact Int.le_refl _
theorem ww_lift_at (r : Nat → Int32) (b : Nat) (x : Int32) : x.toInt ≤ (ww_lift r b x b).toInt := by
  unfold ww_lift
  by_cases e : x ≤ r b
  · rw [if_pos e]; rw [Int32.le_iff_toInt_le] at e; exact e
  · rw [if_neg e, pk_us]; exact Int.le_refl _
theorem ww_come_m (w : Nat → Int32) (T : Nat → Nat → Int32) (b : Nat) (so : Int32) (r : Nat → Int32) : ww_come w T b (-1) so r = ww_lift r b (so + w b) := by
  unfold ww_come; rw [if_neg (by decide)]
theorem ww_come_g (w : Nat → Int32) (T : Nat → Nat → Int32) (b : Nat) {g : Nat} (hg : g < 6) (so : Int32) (r : Nat → Int32) : ww_come w T b (nI g) so r = ww_it (ww_com1 T g so) 0 6 r := by
  unfold ww_come; rw [if_pos (nI_pos' (by omega)), nI_clamp (by omega)]
/-- coming to a loop -/
theorem ww_com_V {part : Int32} {u : Nat → Int} {lp r : Nat → Int32} {T : Nat → Nat → Int32} {g : Nat} {so : Int32} {ua : Int} (h : ww_V part u r) (s0 : 0 ≤ so.toInt) (su : so.toInt ≤ ua)
    (hU : ∀ c, bt part c = true → u c < 2147483648) (sub : ∀ x, bt (lp g) x = true → bt part x = true)
    (hT : ∀ c, c < 6 → (bt (lp g) c = true → 0 ≤ (T g c).toInt) ∧ (bt (lp g) c = false → T g c = -1000000))
    (u2 : ∀ c, bt (lp g) c = true → ua + (T g c).toInt ≤ u c) :
    ww_V part u (ww_it (ww_com1 T g so) 0 6 r) ∧ (∀ c, (r c).toInt ≤ (ww_it (ww_com1 T g so) 0 6 r c).toInt) ∧ (∀ c, c < 6 → bt (lp g) c = true → so.toInt + (T g c).toInt ≤ (ww_it (ww_com1 T g so) 0 6 r c).toInt) := by
  refine ww_ind (fun i s => ww_V part u s ∧ (∀ c, (r c).toInt ≤ (s c).toInt) ∧ (∀ c, c < i → bt (lp g) c = true → so.toInt + (T g c).toInt ≤ (s c).toInt)) (ww_com1 T g so) 6 ?_ 6 0 r rfl ⟨h, fun c => Int.le_refl _, fun c hc => absurd hc (by omega)⟩
  intro i s hi ⟨k1, k2, k3⟩
  unfold ww_com1
  cases e : bt (lp g) i
  · rw [(hT i hi).2 e, if_pos (by decide)]
    refine ⟨k1, k2, fun c hc hl => ?_⟩
    by_cases q : c = i
    · rw [q, e] at hl; exact absurd hl (by decide)
    · exact k3 c (by omega) hl
  · have t0 := (hT i hi).1 e
    rw [if_neg (ww_nfar t0)]
    have ub := u2 i e
    have ul := hU i (sub i e)
    have ad : (so + T g i).toInt = so.toInt + (T g i).toInt := ww_add (by omega) (by omega)
    refine ⟨ww_lift_V k1 (sub i e) (by omega) (by omega), fun c => Int.le_trans (k2 c) (ww_lift_mono s i _ c), fun c hc hl => ?_⟩
    by_cases q : c = i
    · rw [q]
      have := ww_lift_at s i (so + T g i)
      omega
    · exact Int.le_trans (k3 c (by omega) hl) (ww_lift_mono s i _ c)
/-- what a pass rests on -/
def ww_PH (lp hd : Nat → Int32) (m : Nat) (fw w : Nat → Int32) (T : Nat → Nat → Int32) (lv part head : Int32) (u tg : Nat → Int) : Prop :=
  ww_sm part ∧ (∀ x, bt part x = true → bt lv x = true) ∧
  (∀ c, bt part c = true → 0 ≤ (w c).toInt) ∧ (∀ c, bt part c = true → u c < 2147483648) ∧
  (∀ g, ww_Lp lp part head g → ∀ c, c < 6 → (bt (lp g) c = true → 0 ≤ (T g c).toInt) ∧ (bt (lp g) c = false → T g c = -1000000)) ∧
  (∀ a c, bt part a = true → bt part c = true → bt (fw a) c = true → ww_LL lp hd m c part head = -1 → tg c ≤ tg a + (w c).toInt ∧ u a + (w c).toInt ≤ u c) ∧
  (∀ a g c, bt part a = true → bt (fw a) g = true → ww_Lp lp part head g → bt (lp g) c = true → tg c ≤ tg a + (T g c).toInt ∧ u a + (T g c).toInt ≤ u c)
def ww_Rd (lp hd : Nat → Int32) (m : Nat) (fw od : Nat → Int32) (part head : Int32) (s0 k c : Nat) : Prop :=
  ww_ent (ww_LL lp hd m c part head) c = s0 ∨ ∃ j, j < k ∧ bt part (od j).toNatClampNeg = true ∧ bt (fw (od j).toNatClampNeg) (ww_ent (ww_LL lp hd m c part head) c) = true
def ww_PI (lp hd : Nat → Int32) (m : Nat) (fw od : Nat → Int32) (part head : Int32) (u tg : Nat → Int) (s0 k : Nat) (r : Nat → Int32) : Prop :=
  ww_V part u r ∧ ∀ c, bt part c = true → ww_Rd lp hd m fw od part head s0 k c → 0 ≤ (r c).toInt ∧ tg c ≤ (r c).toInt
/-- the entry lies in the part -/
theorem ww_ent_in {lv : Int32} {n m : Nat} {nx dm fw bk lp od hd : Nat → Int32} (h : ww_Sh lv n m nx dm fw bk lp od hd) {part head : Int32} {c : Nat} (hc : bt part c = true) :
    (ww_LL lp hd m c part head = -1 ∧ ww_ent (ww_LL lp hd m c part head) c = c) ∨
    ∃ g, ww_LL lp hd m c part head = nI g ∧ ww_ent (ww_LL lp hd m c part head) c = g ∧ ww_Lp lp part head g ∧ bt (lp g) c = true ∧ bt (lp g) g = true ∧ bt part g = true ∧ ww_LL lp hd m g part head = nI g := by
  rcases ww_LL_spec h c part head with ⟨e, _⟩ | ⟨g, e, k1, k2, _⟩
  · exact Or.inl ⟨e, by rw [e]; exact ww_ent_m⟩
  · have gg := ww_lhd h.2.2.2.2.2.1 k1.1 k2
    exact Or.inr ⟨g, e, by rw [e]; exact ww_ent_g k1.1, k1, k2, gg, k1.2.2.2 g gg, ww_LL_head h k1.1 e⟩
/-- one edge -/
theorem ww_pas1_ok {lv : Int32} {n m : Nat} {nx dm fw bk lp od hd : Nat → Int32} (h : ww_Sh lv n m nx dm fw bk lp od hd) {w : Nat → Int32} {T : Nat → Nat → Int32} {part head : Int32} {u tg : Nat → Int}
    (ph : ww_PH lp hd m fw w T lv part head u tg) {a : Nat} (ha : bt part a = true) {b : Nat} (hb : b < 6) {r : Nat → Int32} (hV : ww_V part u r) (ra : 0 ≤ (r a).toInt) (rt : tg a ≤ (r a).toInt) :
    ww_V part u (ww_pas1 lp hd m fw w T part head a (ww_LL lp hd m a part head) b r) ∧ (∀ c, (r c).toInt ≤ (ww_pas1 lp hd m fw w T part head a (ww_LL lp hd m a part head) b r c).toInt) ∧
    ∀ c, bt part c = true → ww_ent (ww_LL lp hd m c part head) c = b → bt (fw a) b = true → 0 ≤ (ww_pas1 lp hd m fw w T part head a (ww_LL lp hd m a part head) b r c).toInt ∧ tg c ≤ (ww_pas1 lp hd m fw w T part head a (ww_LL lp hd m a part head) b r c).toInt := by
  have hh := h
  obtain ⟨_, _, h1, h2, h3, h4, h5, h6⟩ := h
  obtain ⟨p1, p2, p3, p4, p5, p6, p7⟩ := ph
  have a6 := ww_sm_lt p1 ha
  have rau : (r a).toInt ≤ u a := by
    rcases hV a a6 with e | e
    · rw [e, ww_far] at ra; omega
    · exact e.2.2
  unfold ww_pas1
  by_cases g : bt (fw a &&& part) b = true
  · rw [if_pos g]
    rw [b_and, Bool.and_eq_true] at g
    have fl := ww_fwl hh a6 g.1
    unfold ww_step
    by_cases d : ww_LL lp hd m a part head < 0 ∨ ¬ ww_LL lp hd m a part head = ww_LL lp hd m b part head
    · rw [if_pos d]
      rcases ww_LL_spec hh b part head with ⟨e, _⟩ | ⟨q, e, k1, k2, k3⟩
      · rw [e, ww_come_m]
        obtain ⟨l1, u1⟩ := p6 a b ha g.2 g.1 e
        have wb := p3 b g.2
        have ub := p4 b g.2
        have ad : (r a + w b).toInt = (r a).toInt + (w b).toInt := ww_add (by omega) (by omega)
        refine ⟨ww_lift_V hV g.2 (by omega) (by omega), ww_lift_mono r b _, fun c hc en _ => ?_⟩
        have cb : c = b := by
          rcases ww_ent_in hh (head := head) hc with ⟨_, e2⟩ | ⟨q, _, e2, _, _, _, _, e3⟩
          · rw [e2] at en; exact en
          · rw [e2] at en; rw [en, e] at e3
            have := ww_m1n (g := b) hb
            exact absurd e3.symm this
        rw [cb]
        have := ww_lift_at r b (r a + w b)
        omega
      · rw [e, ww_come_g w T b k1.1]
        have anq : bt (lp q) a = false := by
          cases z : bt (lp q) a
          · rfl
          · rcases ww_LL_spec hh a part head with ⟨j1, j2⟩ | ⟨q2, j1, j2, j3, j4⟩
            · exact (j2 q k1 z).elim
            · have s1 := j4 q k1 z
              have s2 := k3 q2 j2 (s1 b k2)
              have : q = q2 := ww_luq h1 h2 h3 h4 k1.1 j2.1 k2 s2 s1
              rcases d with d | d
              · rw [j1] at d; exact absurd d (nI_pos (by have := j2.1; omega))
              · exact absurd (by rw [j1, e, this]) d
        have bq : b = q := by
          by_cases z : b = q
          · exact z
          · rw [ww_lcl h4 k1.1 fl.1 fl.2.1 k2 z] at anq; exact absurd anq (by decide)
        have fq : bt (fw a) q = true := by rw [← bq]; exact g.1
        obtain ⟨c1, c2, c3⟩ := ww_com_V (lp := lp) (g := q) (T := T) hV ra rau p4 k1.2.2.2 (p5 q k1) (fun c hc => (p7 a q c ha fq k1 hc).2)
        refine ⟨c1, c2, fun c hc en _ => ?_⟩
        have cq : bt (lp q) c = true := by
          rcases ww_ent_in hh (head := head) hc with ⟨e1, e2⟩ | ⟨q2, _, e2, _, e4, _, _, _⟩
          · rw [e2] at en; rw [en, e] at e1; exact absurd e1 (ww_m1n k1.1)
          · rw [e2] at en; rw [← bq, ← en]; exact e4
        have c6 := ww_sm_lt p1 hc
        have l2 := (p7 a q c ha fq k1 cq).1
        have := c3 c c6 cq
        have t0 := (p5 q k1 c c6).1 cq
        omega
    · rw [if_neg d]
      refine ⟨hV, fun c => Int.le_refl _, fun c hc en hf => ?_⟩
      have d1 : ¬ ww_LL lp hd m a part head < 0 := fun z => d (Or.inl z)
      have d2 : ww_LL lp hd m a part head = ww_LL lp hd m b part head := by
        by_cases z : ww_LL lp hd m a part head = ww_LL lp hd m b part head
        · exact z
        · exact absurd (Or.inr z) d
      rcases ww_ent_in hh (head := head) hc with ⟨e1, e2⟩ | ⟨q, _, e2, k1, _, _, _, e3⟩
      · rw [e2] at en; rw [en] at e1; rw [d2, e1] at d1; exact absurd (by decide) d1
      · rw [e2] at en; subst en
        rw [e3] at d2
        rcases ww_LL_spec hh a part head with ⟨j1, _⟩ | ⟨q2, j1, j2, j3, _⟩
        · rw [j1] at d2; exact absurd d2.symm (ww_m1n k1.1)
        · have : q2 = q := (nI_eq (by have := j2.1; omega) (by omega)).mp (j1.symm.trans d2)
          rw [this] at j3
          rw [ww_lfw h1 h2 h3 h4 k1.1 j3] at hf; exact absurd hf (by decide)
  · rw [if_neg g]
    refine ⟨hV, fun c => Int.le_refl _, fun c hc en hf => ?_⟩
    have bp : bt part b = true := by
      rcases ww_ent_in hh (head := head) hc with ⟨_, e2⟩ | ⟨q, _, e2, _, _, _, e4, _⟩
      · rw [e2] at en; rw [← en]; exact hc
      · rw [e2] at en; rw [← en]; exact e4
    exact absurd (by rw [b_and, hf, bp]; rfl) g
theorem ww_pass_ok {lv : Int32} {n m : Nat} {nx dm fw bk lp od hd : Nat → Int32} (h : ww_Sh lv n m nx dm fw bk lp od hd) {w : Nat → Int32} {T : Nat → Nat → Int32} {part head : Int32} {u tg : Nat → Int} {s0 : Nat}
    (ph : ww_PH lp hd m fw w T lv part head u tg) (rdy : ∀ k, k < n → bt part (od k).toNatClampNeg = true → ww_Rd lp hd m fw od part head s0 k (od k).toNatClampNeg)
    {r : Nat → Int32} (h0 : ww_PI lp hd m fw od part head u tg s0 0 r) : ww_PI lp hd m fw od part head u tg s0 n (ww_pass lp hd m fw od n w T part head r) := by
  refine ww_ind (fun k r => ww_PI lp hd m fw od part head u tg s0 k r) (ww_pas2 lp hd m fw od w T part head) n ?_ n 0 r (by omega) h0
  intro k r hk ⟨hV, hR⟩
  unfold ww_pas2
  by_cases g : bt part (od k).toNatClampNeg = true ∧ ¬ r (od k).toNatClampNeg ≤ -1000000
  · rw [if_pos g]
    have ra := hR _ g.1 (rdy k hk g.1)
    have main := ww_ind (fun b s => ww_V part u s ∧ (∀ c, (r c).toInt ≤ (s c).toInt) ∧ ∀ c, bt part c = true → ww_ent (ww_LL lp hd m c part head) c < b → bt (fw (od k).toNatClampNeg) (ww_ent (ww_LL lp hd m c part head) c) = true → 0 ≤ (s c).toInt ∧ tg c ≤ (s c).toInt)
      (ww_pas1 lp hd m fw w T part head (od k).toNatClampNeg (ww_LL lp hd m (od k).toNatClampNeg part head)) 6 (by
      intro b s hb ⟨k1, k2, k3⟩
      have sa := k2 (od k).toNatClampNeg
      obtain ⟨q1, q2, q3⟩ := ww_pas1_ok h ph g.1 hb k1 (by omega) (by omega)
      refine ⟨q1, fun c => Int.le_trans (k2 c) (q2 c), fun c hc en hf => ?_⟩
      by_cases e : ww_ent (ww_LL lp hd m c part head) c = b
      · exact q3 c hc e (by rw [← e]; exact hf)
      · have := k3 c hc (by omega) hf
        have := q2 c
        omega) 6 0 r rfl ⟨hV, fun c => Int.le_refl _, fun c _ hc => absurd hc (by omega)⟩
    obtain ⟨m1, m2, m3⟩ := main
    refine ⟨m1, fun c hc rd => ?_⟩
    have old : ww_Rd lp hd m fw od part head s0 k c → 0 ≤ (ww_it (ww_pas1 lp hd m fw w T part head (od k).toNatClampNeg (ww_LL lp hd m (od k).toNatClampNeg part head)) 0 6 r c).toInt ∧ tg c ≤ (ww_it (ww_pas1 lp hd m fw w T part head (od k).toNatClampNeg (ww_LL lp hd m (od k).toNatClampNeg part head)) 0 6 r c).toInt := by
      intro q
      have := hR c hc q
      have := m2 c
      omega
    rcases rd with e | ⟨j, j1, j2, j3⟩
    · exact old (Or.inl e)
    · by_cases ej : j = k
      · rw [ej] at j3
        refine m3 c hc ?_ j3
        have hp := ph.1
        rcases ww_ent_in h (head := head) hc with ⟨_, e2⟩ | ⟨q, _, e2, k1, _⟩
        · rw [e2]; exact ww_sm_lt hp hc
        · rw [e2]; exact k1.1
      · exact old (Or.inr ⟨j, by omega, j2, j3⟩)
  · rw [if_neg g]
    refine ⟨hV, fun c hc rd => ?_⟩
    rcases rd with e | ⟨j, j1, j2, j3⟩
    · exact hR c hc (Or.inl e)
    · by_cases ej : j = k
      · rw [ej] at j2
        have ra := hR _ j2 (rdy k hk j2)
        exact absurd ⟨j2, ww_nfar ra.1⟩ g
      · exact hR c hc (Or.inr ⟨j, by omega, j2, j3⟩)
end
section
/-! who is reached in time -/
theorem ww_rdy {lv : Int32} {n m : Nat} {nx dm fw bk lp od hd : Nat → Int32} (h : ww_Sh lv n m nx dm fw bk lp od hd) (r : n = ww_sz lv) {part head : Int32} {s0 : Nat} (hp : ww_sm part) (hpl : ∀ x, bt part x = true → bt lv x = true)
    (hcl : ∀ e, bt part e = true → e ≠ s0 → e ≠ 0 ∧ ∀ a, bt lv a = true → bt (nx a) e = true → bt part a = true) {c : Nat} (hc : bt part c = true) : ww_Rd lp hd m fw od part head s0 (ww_ps od c n) c := by
  have hh := h
  obtain ⟨_, _, h1, h2, h3, h4, h5, h6⟩ := h
  have ee : bt part (ww_ent (ww_LL lp hd m c part head) c) = true ∧ bt (dm c) (ww_ent (ww_LL lp hd m c part head) c) = true := by
    rcases ww_ent_in hh (head := head) hc with ⟨_, e2⟩ | ⟨q, _, e2, k1, k2, _, e4, _⟩
    · rw [e2]; exact ⟨hc, (h2.2.2.2.2.1 c (hpl c hc)).1⟩
    · rw [e2]; exact ⟨e4, (ww_ldm h1 h2 h3 h4 k1.1 k2).2⟩
  by_cases e : ww_ent (ww_LL lp hd m c part head) c = s0
  · exact Or.inl e
  · obtain ⟨e0, pr⟩ := hcl _ ee.1 e
    obtain ⟨a, a1, a2, a3⟩ := ww_fpred h1 h2 (hpl _ ee.1) e0
    have a6 := ww_sm_lt h1.1 a1
    have fa := (h3.2.2.1 a _ a6).mpr ⟨a1, a2, a3⟩
    have l1 := ww_R2 hh r a6 fa
    have l2 := ww_R3 hh r _ c (Nat.le_refl _) (hpl c hc) ee.2
    have oa := (ww_R1 hh r a1).2
    refine Or.inr ⟨ww_ps od a n, by omega, ?_, ?_⟩
    · rw [oa, nI_clamp (by omega)]; exact pr a a1 a2
    · rw [oa, nI_clamp (by omega)]; exact fa
theorem ww_Rd_mono {lp hd : Nat → Int32} {m : Nat} {fw od : Nat → Int32} {part head : Int32} {s0 k k' c : Nat} (hk : k ≤ k') (h : ww_Rd lp hd m fw od part head s0 k c) : ww_Rd lp hd m fw od part head s0 k' c := by
  rcases h with e | ⟨j, j1, j2, j3⟩
  · exact Or.inl e
  · exact Or.inr ⟨j, by omega, j2, j3⟩
theorem ww_rdyk {lv : Int32} {n m : Nat} {nx dm fw bk lp od hd : Nat → Int32} (h : ww_Sh lv n m nx dm fw bk lp od hd) (r : n = ww_sz lv) {part head : Int32} {s0 : Nat} (hp : ww_sm part) (hpl : ∀ x, bt part x = true → bt lv x = true)
    (hcl : ∀ e, bt part e = true → e ≠ s0 → e ≠ 0 ∧ ∀ a, bt lv a = true → bt (nx a) e = true → bt part a = true) : ∀ k, k < n → bt part (od k).toNatClampNeg = true → ww_Rd lp hd m fw od part head s0 k (od k).toNatClampNeg := by
  intro k hk hc
  have hh := h
  obtain ⟨_, _, h1, h2, h3, h4, h5, h6⟩ := h
  obtain ⟨b, b1, b2, b3⟩ := h5.1 k hk
  have e : (od k).toNatClampNeg = b := by rw [b2, nI_clamp (by omega)]
  have := ww_rdy hh r (head := head) hp hpl hcl hc
  rw [e] at this ⊢
  rw [ww_ps_at n h5.2.1 hk b2] at this
  exact this
/-! a loop is summed up -/
def ww_rnd1 (bk r : Nat → Int32) (h a : Nat) (x : Int32) : Int32 := if bt (bk h) a = true ∧ ¬ r a ≤ x then r a else x
def ww_rnd (bk r : Nat → Int32) (h : Nat) : Int32 := ww_it (ww_rnd1 bk r h) 0 6 0
def ww_row (bd bk r : Nat → Int32) (h b : Nat) : Int32 := if r b ≤ -1000000 then -1000000 else r b + (bd h - 1) * ww_rnd bk r h
def ww_farF : Nat → Int32 := fun _ => -1000000
def ww_sumR (lp hd : Nat → Int32) (m : Nat) (fw od : Nat → Int32) (n : Nat) (w : Nat → Int32) (T : Nat → Nat → Int32) (h : Nat) : Nat → Int32 :=
  ww_pass lp hd m fw od n w T (lp h) (nI h) (upd ww_farF h (w h))
def ww_RO (lp w : Nat → Int32) (l UB : Nat → Int) (g : Nat) (R : Nat → Int32) : Prop :=
  ∀ c, c < 6 → (bt (lp g) c = true → 0 ≤ (R c).toInt ∧ l c - l g + (w g).toInt ≤ (R c).toInt ∧ (R c).toInt ≤ UB g) ∧ (bt (lp g) c = false → R c = -1000000)
theorem ww_rnd_le {part : Int32} {u : Nat → Int} {bk r : Nat → Int32} {h : Nat} {Um : Int} (hV : ww_V part u r) (hu : ∀ c, bt part c = true → u c ≤ Um) (h0 : 0 ≤ Um) : 0 ≤ (ww_rnd bk r h).toInt ∧ (ww_rnd bk r h).toInt ≤ Um := by
  refine ww_ind (fun _ x => 0 ≤ x.toInt ∧ x.toInt ≤ Um) (ww_rnd1 bk r h) 6 ?_ 6 0 0 rfl ⟨by decide, by rw [ww_z0]; exact h0⟩
  intro i x hi ⟨k1, k2⟩
  unfold ww_rnd1
  by_cases g : bt (bk h) i = true ∧ ¬ r i ≤ x
  · rw [if_pos g]
    have g2 := g.2
    rw [Int32.le_iff_toInt_le] at g2
    rcases hV i hi with e | e
    · rw [e, ww_far] at g2; omega
    · have := hu i e.1
      exact ⟨by omega, by omega⟩
  · rw [if_neg g]; exact ⟨k1, k2⟩
theorem ww_mulb {x y : Int32} {k : Nat} (hk : 1 ≤ k) (hk3 : k ≤ 3) (e : x = nI k) (h0 : 0 ≤ y.toInt) (h1 : 2 * y.toInt < 2147483648) : 0 ≤ ((x - 1) * y).toInt ∧ ((x - 1) * y).toInt ≤ 2 * y.toInt := by
  have hx : (x - 1).toInt = (k : Int) - 1 := by
    rw [e]
    have : k = 1 ∨ k = 2 ∨ k = 3 := by omega
    rcases this with q | q | q
    · rw [q]; decide
    · rw [q]; decide
    · rw [q]; decide
  rw [Int32.toInt_mul, hx]
  have : k = 1 ∨ k = 2 ∨ k = 3 := by omega
  rcases this with q | q | q
  · rw [q, Int.bmod_eq_of_le (by omega) (by omega)]; omega
  · rw [q, Int.bmod_eq_of_le (by omega) (by omega)]; omega
  · rw [q, Int.bmod_eq_of_le (by omega) (by omega)]; omega
/-- the upper potential of a loop -/
def ww_UH (lp fw w : Nat → Int32) (UB : Nat → Int) (h : Nat) (u : Nat → Int) (Um : Int) : Prop :=
  (w h).toInt ≤ u h ∧ (∀ c, bt (lp h) c = true → u c ≤ Um) ∧ 3 * Um ≤ UB h ∧ UB h < 2147483648 ∧
  (∀ a c, bt (lp h) a = true → bt (lp h) c = true → bt (fw a) c = true → u a + (w c).toInt ≤ u c) ∧
  (∀ a g c, bt (lp h) a = true → bt (fw a) g = true → ww_Lp lp (lp h) (nI h) g → bt (lp g) c = true → u a + UB g ≤ u c)
theorem ww_sum_ok {lv : Int32} {n m : Nat} {nx dm fw bk lp od hd : Nat → Int32} (sh : ww_Sh lv n m nx dm fw bk lp od hd) (rg : n = ww_sz lv) {w bd : Nat → Int32} {T : Nat → Nat → Int32} {l UB u : Nat → Int} {Um : Int} {h : Nat} (hh : h < 6) (hn : ¬ lp h = 0)
    (hw : ∀ c, c < 6 → 0 ≤ (w c).toInt) (hb : ∃ k, 1 ≤ k ∧ k ≤ 3 ∧ bd h = nI k) (hl : ∀ a c, a < 6 → bt (fw a) c = true → l c ≤ l a + (w c).toInt) (hu : ww_UH lp fw w UB h u Um)
    (rows : ∀ g, ww_Lp lp (lp h) (nI h) g → ww_RO lp w l UB g (T g)) : ww_RO lp w l UB h (ww_row bd bk (ww_sumR lp hd m fw od n w T h) h) := by
  have hs := sh
  obtain ⟨_, _, h1, h2, h3, h4, h5, h6⟩ := sh
  obtain ⟨u0, um, u3, u4, u5, u6⟩ := hu
  have ph := h4.1 h hh
  have hin := ww_lnz h4 hh hn
  have ldm := fun x (hx : bt (lp h) x = true) => ww_ldm h1 h2 h3 h4 hh hx
  have Um0 : 0 ≤ Um := by have := hw h hh; have := um h hin; omega
  have PH : ww_PH lp hd m fw w T lv (lp h) (nI h) u (fun c => l c - l h + (w h).toInt) := by
    refine ⟨ph, fun x hx => (ldm x hx).1, fun c hc => hw c (ww_sm_lt ph hc), fun c hc => ?_, fun g hg c hc => ?_, ?_, ?_⟩
    · have := um c hc; omega
    · exact ⟨fun k => ((rows g hg c hc).1 k).1, (rows g hg c hc).2⟩
    · intro a c ha hc hf _
      have := hl a c (ww_sm_lt ph ha) hf
      refine ⟨?_, u5 a c ha hc hf⟩
      show l c - l h + _ ≤ l a - l h + _ + _
      omega
    · intro a g c ha hf hg hc
      have c6 := ww_sm_lt ph (hg.2.2.2 c hc)
      have q := (rows g hg c c6).1 hc
      have := hl a g (ww_sm_lt ph ha) hf
      have := u6 a g c ha hf hg hc
      refine ⟨?_, by omega⟩
      show l c - l h + _ ≤ l a - l h + _ + _
      omega
  have hcl : ∀ e, bt (lp h) e = true → e ≠ h → e ≠ 0 ∧ ∀ a, bt lv a = true → bt (nx a) e = true → bt (lp h) a = true := by
    intro e he ne
    refine ⟨fun z => ?_, fun a ha hae => ww_lcl h4 hh ha hae he ne⟩
    have := (ldm e he).2
    rw [z] at this
    exact ne (z.trans (ww_d0 h2 this).symm)
  have init : ww_PI lp hd m fw od (lp h) (nI h) u (fun c => l c - l h + (w h).toInt) h 0 (upd ww_farF h (w h)) := by
    refine ⟨fun c hc => ?_, fun c hc rd => ?_⟩
    · by_cases e : c = h
      · rw [e, pk_us]; exact Or.inr ⟨hin, hw h hh, u0⟩
      · rw [pk_un e]; exact Or.inl rfl
    · rcases rd with e | ⟨j, j1, _⟩
      · have ch : c = h := by
          rcases ww_ent_in hs (head := nI h) hc with ⟨_, e2⟩ | ⟨q, _, e2, k1, _⟩
          · rw [e2] at e; exact e
          · rw [e2] at e; exact absurd (by rw [e]) k1.2.2.1
        rw [ch, pk_us]
        have := hw h hh
        refine ⟨this, ?_⟩
        show l h - l h + _ ≤ _
        omega
      · omega
  have fin := ww_pass_ok hs PH (ww_rdyk hs rg ph (fun x hx => (ldm x hx).1) hcl) init
  have fe : ww_pass lp hd m fw od n w T (lp h) (nI h) (upd ww_farF h (w h)) = ww_sumR lp hd m fw od n w T h := rfl
  rw [fe] at fin
  obtain ⟨f1, f2⟩ := fin
  have rd := ww_rnd_le (bk := bk) (h := h) f1 um Um0
  obtain ⟨k, k1, k2, k3⟩ := hb
  have mu := ww_mulb k1 k2 k3 rd.1 (by omega)
  intro c hc
  unfold ww_row
  refine ⟨fun hcl' => ?_, fun hno => ?_⟩
  · have v := f2 c hcl' (ww_Rd_mono (Nat.le_of_lt (ww_R1 hs rg (ldm c hcl').1).1) (ww_rdy hs rg ph (fun x hx => (ldm x hx).1) hcl hcl'))
    have v2 : (ww_sumR lp hd m fw od n w T h c).toInt ≤ Um := by
      rcases f1 c hc with e | e
      · rw [e, ww_far] at v; omega
      · have := um c hcl'; omega
    rw [if_neg (ww_nfar v.1)]
    have ad := ww_add (x := ww_sumR lp hd m fw od n w T h c) (y := (bd h - 1) * ww_rnd bk (ww_sumR lp hd m fw od n w T h) h) (by omega) (by omega)
    have v3 : l c - l h + (w h).toInt ≤ (ww_sumR lp hd m fw od n w T h c).toInt := v.2
    refine ⟨by omega, by omega, by omega⟩
  · have e : ww_sumR lp hd m fw od n w T h c = -1000000 := by
      rcases f1 c hc with e | e
      · exact e
      · rw [hno] at e; exact absurd e.1 (by decide)
    rw [e, if_pos (by decide)]
/-- the table of all loops -/
def ww_tab1 (lp hd : Nat → Int32) (m : Nat) (fw od : Nat → Int32) (n : Nat) (bk bd w : Nat → Int32) (k : Nat) (T : Nat → Nat → Int32) : Nat → Nat → Int32 :=
  fun g => if g = (hd k).toNatClampNeg then ww_row bd bk (ww_sumR lp hd m fw od n w T (hd k).toNatClampNeg) (hd k).toNatClampNeg else T g
def ww_tab (lp hd : Nat → Int32) (m : Nat) (fw od : Nat → Int32) (n : Nat) (bk bd w : Nat → Int32) (k : Nat) : Nat → Nat → Int32 := ww_it (ww_tab1 lp hd m fw od n bk bd w) 0 k (fun _ _ => 0)
theorem ww_tab_ok {lv : Int32} {n m : Nat} {nx dm fw bk lp od hd : Nat → Int32} (sh : ww_Sh lv n m nx dm fw bk lp od hd) (rg : n = ww_sz lv) {w bd : Nat → Int32} {l UB : Nat → Int}
    (hw : ∀ c, c < 6 → 0 ≤ (w c).toInt) (hb : ∀ h, h < 6 → ∃ k, 1 ≤ k ∧ k ≤ 3 ∧ bd h = nI k) (hl : ∀ a c, a < 6 → bt (fw a) c = true → l c ≤ l a + (w c).toInt)
    (hu : ∀ h, h < 6 → ¬ lp h = 0 → ∃ u Um, ww_UH lp fw w UB h u Um) :
    ∀ g, g < 6 → ¬ lp g = 0 → ww_RO lp w l UB g (ww_tab lp hd m fw od n bk bd w m g) := by
  have hs := sh
  obtain ⟨_, _, h1, h2, h3, h4, h5, h6⟩ := sh
  have main := ww_ind (fun k T => ∀ j g, j < k → hd j = nI g → g < 6 → ww_RO lp w l UB g (T g)) (ww_tab1 lp hd m fw od n bk bd w) m (by
    intro k T hk ih j g hj e hg
    obtain ⟨q, q1, q2, q3⟩ := h6.1 k hk
    have cl : (hd k).toNatClampNeg = q := by rw [q2, nI_clamp (by omega)]
    unfold ww_tab1
    rw [cl]
    by_cases eg : g = q
    · rw [eg]
      show ww_RO lp w l UB q (if q = q then _ else _)
      rw [if_pos rfl]
      obtain ⟨u, Um, hU⟩ := hu q q1 q3
      refine ww_sum_ok hs rg q1 q3 hw (hb q q1) hl hU (fun g' lg => ?_)
      have ne : g' ≠ q := by intro z; rw [z] at lg; exact lg.2.2.1 rfl
      have lt := ww_lszlt h1 h2 h3 h4 lg.1 q1 ne lg.2.1 lg.2.2.2
      obtain ⟨i, i1, i2⟩ := h6.2.1 g' lg.1 lg.2.1
      refine ih i g' ?_ i2 lg.1
      have ci : (hd i).toNatClampNeg = g' := by rw [i2, nI_clamp (by have := lg.1; omega)]
      rcases Nat.lt_or_ge i k with z | z
      · exact z
      · by_cases ik : i = k
        · rw [ik, q2] at i2
          exact absurd ((nI_eq (by omega) (by have := lg.1; omega)).mp i2).symm ne
        · have := h6.2.2.1 k i (by omega) i1
          rw [cl, ci] at this; omega
    · show ww_RO lp w l UB g (if g = q then _ else _)
      rw [if_neg eg]
      have : j ≠ k := by
        intro z
        rw [z, q2] at e
        exact eg ((nI_eq (by omega) (by omega)).mp e).symm
      exact ih j g (by omega) e hg) m 0 (fun _ _ => 0) (by omega) (fun j g hj => absurd hj (by omega))
  intro g hg hn
  obtain ⟨j, j1, j2⟩ := h6.2.1 g hg hn
  exact main j g j1 j2 hg
/-- the walks -/
def ww_W (lv : Int32) (lp hd : Nat → Int32) (m : Nat) (fw od : Nat → Int32) (n : Nat) (bk bd w : Nat → Int32) : Nat → Int32 :=
  ww_pass lp hd m fw od n w (ww_tab lp hd m fw od n bk bd w m) lv (-1) (ww_come w (ww_tab lp hd m fw od n bk bd w m) 0 (ww_LL lp hd m 0 lv (-1)) 0 ww_farF)
theorem ww_W_ok {lv : Int32} {n m : Nat} {nx dm fw bk lp od hd : Nat → Int32} (sh : ww_Sh lv n m nx dm fw bk lp od hd) (rg : n = ww_sz lv) {w bd : Nat → Int32} {l UB u : Nat → Int}
    (hw : ∀ c, c < 6 → 0 ≤ (w c).toInt) (hl : ∀ a c, a < 6 → bt (fw a) c = true → l c ≤ l a + (w c).toInt) (hl0 : l 0 ≤ (w 0).toInt)
    (rows : ∀ g, g < 6 → ¬ lp g = 0 → ww_RO lp w l UB g (ww_tab lp hd m fw od n bk bd w m g))
    (u0 : (w 0).toInt ≤ u 0) (u1 : ∀ c, bt (lp 0) c = true → UB 0 ≤ u c) (u2 : ∀ c, bt lv c = true → u c < 2147483648)
    (u3 : ∀ a c, a < 6 → bt (fw a) c = true → u a + (w c).toInt ≤ u c) (u4 : ∀ a g c, a < 6 → bt (fw a) g = true → g < 6 → ¬ lp g = 0 → bt (lp g) c = true → u a + UB g ≤ u c) :
    ww_V lv u (ww_W lv lp hd m fw od n bk bd w) ∧ ∀ c, bt lv c = true → 0 ≤ (ww_W lv lp hd m fw od n bk bd w c).toInt ∧ l c ≤ (ww_W lv lp hd m fw od n bk bd w c).toInt := by
  have hs := sh
  obtain ⟨_, _, h1, h2, h3, h4, h5, h6⟩ := sh
  have pl := h1.1
  have PH : ww_PH lp hd m fw w (ww_tab lp hd m fw od n bk bd w m) lv lv (-1) u l := by
    refine ⟨pl, fun x hx => hx, fun c hc => hw c (ww_sm_lt pl hc), u2, fun g hg c hc => ?_, ?_, ?_⟩
    · have q := rows g hg.1 hg.2.1 c hc
      exact ⟨fun k => (q.1 k).1, q.2⟩
    · intro a c ha hc hf _
      exact ⟨hl a c (ww_sm_lt pl ha) hf, u3 a c (ww_sm_lt pl ha) hf⟩
    · intro a g c ha hf hg hc
      have a6 := ww_sm_lt pl ha
      have c6 := ww_sm_lt pl (hg.2.2.2 c hc)
      have q := (rows g hg.1 hg.2.1 c c6).1 hc
      have := hl a g a6 hf
      have := u4 a g c a6 hf hg.1 hg.2.1 hc
      exact ⟨by omega, by omega⟩
  have hcl : ∀ e, bt lv e = true → e ≠ 0 → e ≠ 0 ∧ ∀ a, bt lv a = true → bt (nx a) e = true → bt lv a = true := fun e _ ne => ⟨ne, fun a ha _ => ha⟩
  have V0 : ww_V lv u ww_farF := fun c _ => Or.inl rfl
  have w0 := hw 0 (by omega)
  have init : ww_PI lp hd m fw od lv (-1) u l 0 0 (ww_come w (ww_tab lp hd m fw od n bk bd w m) 0 (ww_LL lp hd m 0 lv (-1)) 0 ww_farF) := by
    rcases ww_LL_spec hs 0 lv (-1) with ⟨e, _⟩ | ⟨g, e, k1, k2, _⟩
    · rw [e, ww_come_m]
      have ad : ((0 : Int32) + w 0).toInt = (w 0).toInt := by rw [Int32.zero_add]
      refine ⟨ww_lift_V V0 h1.2.1 (by omega) (by omega), fun c hc rd => ?_⟩
      rcases rd with q | ⟨j, j1, _⟩
      · have c0 : c = 0 := by
          rcases ww_ent_in hs (head := -1) hc with ⟨_, e2⟩ | ⟨g, _, e2, k1, _, _, _, e3⟩
          · rw [e2] at q; exact q
          · rw [e2] at q; rw [q, e] at e3; exact absurd e3 (by decide)
        rw [c0]
        have := ww_lift_at ww_farF 0 ((0 : Int32) + w 0)
        omega
      · omega
    · have g0 : g = 0 := ww_d0 h2 (ww_ldm h1 h2 h3 h4 k1.1 k2).2
      subst g0
      rw [e, ww_come_g w _ 0 (by omega)]
      have rw0 := rows 0 (by omega) k1.2.1
      obtain ⟨c1, c2, c3⟩ := ww_com_V (lp := lp) (g := 0) (T := ww_tab lp hd m fw od n bk bd w m) (so := 0) (ua := 0) V0 (by decide) (by decide) u2 k1.2.2.2 (fun c hc => ⟨fun k => ((rw0 c hc).1 k).1, (rw0 c hc).2⟩)
        (fun c hc => by
          have := ((rw0 c (ww_sm_lt pl (k1.2.2.2 c hc))).1 hc).2.2
          have := u1 c hc
          omega)
      refine ⟨c1, fun c hc rd => ?_⟩
      rcases rd with q | ⟨j, j1, _⟩
      · have c0 : bt (lp 0) c = true := by
          rcases ww_ent_in hs (head := -1) hc with ⟨e1, e2⟩ | ⟨g, _, e2, k1, k2, _⟩
          · rw [e2] at q; rw [q, e] at e1; exact absurd e1 (by decide)
          · rw [e2] at q; rw [q] at k2; exact k2
        have c6 := ww_sm_lt pl hc
        have := c3 c c6 c0
        have v := (rw0 c c6).1 c0
        rw [ww_z0] at this
        omega
      · omega
  have fin := ww_pass_ok hs PH (ww_rdyk hs rg pl (fun x hx => hx) hcl) init
  have fe : ww_pass lp hd m fw od n w (ww_tab lp hd m fw od n bk bd w m) lv (-1) (ww_come w (ww_tab lp hd m fw od n bk bd w m) 0 (ww_LL lp hd m 0 lv (-1)) 0 ww_farF) = ww_W lv lp hd m fw od n bk bd w := rfl
  rw [fe] at fin
  exact ⟨fin.1, fun c hc => fin.2 c hc (ww_Rd_mono (Nat.le_of_lt (ww_R1 hs rg hc).1) (ww_rdy hs rg pl (fun x hx => hx) hcl hc))⟩
end
section
/-! the bounds -/
def ww_MB (s : Nat) : Nat := 50 * 18 ^ s
theorem ww_MB_mono {s t : Nat} (h : s ≤ t) : ww_MB s ≤ ww_MB t := Nat.mul_le_mul_left 50 (Nat.pow_le_pow_right (by omega) h)
theorem ww_MB_50 (s : Nat) : 50 ≤ ww_MB s := by
  have := ww_MB_mono (Nat.zero_le s)
  have e : ww_MB 0 = 50 := rfl
  omega
theorem ww_MB_s (s : Nat) : ww_MB (s + 1) = 18 * ww_MB s := by
  unfold ww_MB; rw [Nat.pow_succ]; omega
theorem ww_MB_5 : ww_MB 5 = 94478400 := by decide
theorem ww_lin1 {p q M : Nat} (h : p < q) : (p + 1) * M + M ≤ (q + 1) * M := by
  have := Nat.mul_le_mul_right M (show p + 1 + 1 ≤ q + 1 by omega)
  rw [Nat.succ_mul (p + 1) M] at this
  exact this
theorem ww_lin2 {p M : Nat} : M ≤ (p + 1) * M := by
  rw [Nat.succ_mul]; omega
theorem ww_lin3 {p M : Nat} (h : p < 6) : (p + 1) * M ≤ 6 * M := Nat.mul_le_mul_right M (by omega)
theorem ww_pow_UH {lv : Int32} {n m : Nat} {nx dm fw bk lp od hd : Nat → Int32} (sh : ww_Sh lv n m nx dm fw bk lp od hd) (rg : n = ww_sz lv) {w : Nat → Int32} (hw : ∀ c, c < 6 → 0 ≤ (w c).toInt ∧ (w c).toInt ≤ 50) {h : Nat} (hh : h < 6) (hn : ¬ lp h = 0) :
    ww_UH lp fw w (fun g => ((ww_MB (ww_sz (lp g) - 1) : Nat) : Int)) h (fun c => (((ww_ps od c n + 1) * ww_MB (ww_sz (lp h) - 2) : Nat) : Int)) ((6 * ww_MB (ww_sz (lp h) - 2) : Nat) : Int) := by
  have hs := sh
  obtain ⟨_, ns, h1, h2, h3, h4, h5, h6⟩ := sh
  have s2 := ww_lsz h1 h3 h4 ns hh hn
  have s6 : ww_sz (lp h) ≤ 6 := ww_cn_le _ 6
  have m50 := ww_MB_50 (ww_sz (lp h) - 2)
  have ph := h4.1 h hh
  have n6 := h5.2.2.2.1
  refine ⟨?_, ?_, ?_, ?_, ?_, ?_⟩
  · have := (hw h hh).2
    have k := ww_lin2 (p := ww_ps od h n) (M := ww_MB (ww_sz (lp h) - 2))
    show _ ≤ (((ww_ps od h n + 1) * ww_MB (ww_sz (lp h) - 2) : Nat) : Int)
    omega
  · intro c hc
    have p := (ww_R1 hs rg (ww_ldm h1 h2 h3 h4 hh hc).1).1
    have k := ww_lin3 (p := ww_ps od c n) (M := ww_MB (ww_sz (lp h) - 2)) (by omega)
    show (((ww_ps od c n + 1) * ww_MB (ww_sz (lp h) - 2) : Nat) : Int) ≤ _
    omega
  · have e : ww_sz (lp h) - 1 = ww_sz (lp h) - 2 + 1 := by omega
    show _ ≤ ((ww_MB (ww_sz (lp h) - 1) : Nat) : Int)
    rw [e, ww_MB_s]
    omega
  · have := ww_MB_mono (show ww_sz (lp h) - 1 ≤ 5 by omega)
    rw [ww_MB_5] at this
    show ((ww_MB (ww_sz (lp h) - 1) : Nat) : Int) < _
    omega
  · intro a c ha hc hf
    have lt := ww_R2 hs rg (ww_sm_lt ph ha) hf
    have k := ww_lin1 (M := ww_MB (ww_sz (lp h) - 2)) lt
    have := (hw c (ww_sm_lt ph hc)).2
    show (((ww_ps od a n + 1) * ww_MB (ww_sz (lp h) - 2) : Nat) : Int) + _ ≤ (((ww_ps od c n + 1) * ww_MB (ww_sz (lp h) - 2) : Nat) : Int)
    omega
  · intro a g c ha hf hg hc
    have ne : g ≠ h := by intro z; rw [z] at hg; exact hg.2.2.1 rfl
    have lt := ww_R2 hs rg (ww_sm_lt ph ha) hf
    have d := ww_ldm h1 h2 h3 h4 hg.1 hc
    have le := ww_R3 hs rg _ c (Nat.le_refl _) d.1 d.2
    have sl := ww_lszlt h1 h2 h3 h4 hg.1 hh ne hg.2.1 hg.2.2.2
    have mm := ww_MB_mono (show ww_sz (lp g) - 1 ≤ ww_sz (lp h) - 2 by omega)
    have k := ww_lin1 (M := ww_MB (ww_sz (lp h) - 2)) (show ww_ps od a n < ww_ps od c n by omega)
    show (((ww_ps od a n + 1) * ww_MB (ww_sz (lp h) - 2) : Nat) : Int) + ((ww_MB (ww_sz (lp g) - 1) : Nat) : Int) ≤ (((ww_ps od c n + 1) * ww_MB (ww_sz (lp h) - 2) : Nat) : Int)
    omega
/-- weights up to 50: every live block is reached, no other one; at least as far as the potential l -/
theorem ww_worst_ok {lv : Int32} {n m : Nat} {nx dm fw bk lp od hd : Nat → Int32} (sh : ww_Sh lv n m nx dm fw bk lp od hd) (rg : n = ww_sz lv) {w bd : Nat → Int32} (hw : ∀ c, c < 6 → 0 ≤ (w c).toInt ∧ (w c).toInt ≤ 50)
    (hb : ∀ h, h < 6 → ∃ k, 1 ≤ k ∧ k ≤ 3 ∧ bd h = nI k) {l : Nat → Int} (hl : ∀ a c, a < 6 → bt (fw a) c = true → l c ≤ l a + (w c).toInt) (hl0 : l 0 ≤ (w 0).toInt) :
    (∀ c, c < 6 → bt lv c = false → ww_W lv lp hd m fw od n bk bd w c = -1000000) ∧ ∀ c, bt lv c = true → 0 ≤ (ww_W lv lp hd m fw od n bk bd w c).toInt ∧ l c ≤ (ww_W lv lp hd m fw od n bk bd w c).toInt := by
  have hs := sh
  obtain ⟨_, ns, h1, h2, h3, h4, h5, h6⟩ := sh
  have rows := ww_tab_ok hs rg (bd := bd) (fun c hc => (hw c hc).1) hb hl (fun h hh hn => ⟨_, _, ww_pow_UH hs rg hw hh hn⟩)
  have m50 := ww_MB_50 5
  have n6 := h5.2.2.2.1
  have := ww_W_ok hs rg (l := l) (u := fun c => (((ww_ps od c n + 1) * ww_MB 5 : Nat) : Int)) (fun c hc => (hw c hc).1) hl hl0 rows ?_ ?_ ?_ ?_ ?_
  · refine ⟨fun c hc hn => ?_, this.2⟩
    rcases this.1 c hc with e | e
    · exact e
    · rw [hn] at e; exact absurd e.1 (by decide)
  · have := (hw 0 (by omega)).2
    have k := ww_lin2 (p := ww_ps od 0 n) (M := ww_MB 5)
    show _ ≤ (((ww_ps od 0 n + 1) * ww_MB 5 : Nat) : Int)
    omega
  · intro c hc
    have s6 : ww_sz (lp 0) ≤ 6 := ww_cn_le _ 6
    have mm := ww_MB_mono (show ww_sz (lp 0) - 1 ≤ 5 by omega)
    have k := ww_lin2 (p := ww_ps od c n) (M := ww_MB 5)
    show ((ww_MB (ww_sz (lp 0) - 1) : Nat) : Int) ≤ (((ww_ps od c n + 1) * ww_MB 5 : Nat) : Int)
    omega
  · intro c hc
    have p := (ww_R1 hs rg hc).1
    have k := ww_lin3 (p := ww_ps od c n) (M := ww_MB 5) (by omega)
    show (((ww_ps od c n + 1) * ww_MB 5 : Nat) : Int) < _
    rw [ww_MB_5] at k ⊢
    omega
  · intro a c ha hf
    have lt := ww_R2 hs rg ha hf
    have k := ww_lin1 (M := ww_MB 5) lt
    have := (hw c (ww_sm_lt h1.1 (ww_fwl hs ha hf).2.2)).2
    show (((ww_ps od a n + 1) * ww_MB 5 : Nat) : Int) + _ ≤ (((ww_ps od c n + 1) * ww_MB 5 : Nat) : Int)
    omega
  · intro a g c ha hf hg hn hc
    have lt := ww_R2 hs rg ha hf
    have d := ww_ldm h1 h2 h3 h4 hg hc
    have le := ww_R3 hs rg _ c (Nat.le_refl _) d.1 d.2
    have s6 : ww_sz (lp g) ≤ 6 := ww_cn_le _ 6
    have mm := ww_MB_mono (show ww_sz (lp g) - 1 ≤ 5 by omega)
    have k := ww_lin1 (M := ww_MB 5) (show ww_ps od a n < ww_ps od c n by omega)
    show (((ww_ps od a n + 1) * ww_MB 5 : Nat) : Int) + ((ww_MB (ww_sz (lp g) - 1) : Nat) : Int) ≤ (((ww_ps od c n + 1) * ww_MB 5 : Nat) : Int)
    omega
/-- the weight 1 at a block outside all loops: it is passed once -/
theorem ww_visit_ok {lv : Int32} {n m : Nat} {nx dm fw bk lp od hd : Nat → Int32} (sh : ww_Sh lv n m nx dm fw bk lp od hd) (rg : n = ww_sz lv) {w bd : Nat → Int32} {z : Nat} (hz : bt lv z = true) (hout : ∀ h, h < 6 → bt (lp h) z = false)
    (hw : ∀ c, c < 6 → w c = if c = z then 1 else 0)
    (hb : ∀ h, h < 6 → ∃ k, 1 ≤ k ∧ k ≤ 3 ∧ bd h = nI k) : ∀ c, c < 6 → (ww_W lv lp hd m fw od n bk bd w c).toInt ≤ 1 := by
  have hs := sh
  obtain ⟨_, ns, h1, h2, h3, h4, h5, h6⟩ := sh
  have wv : ∀ c, c < 6 → (w c).toInt = if c = z then 1 else 0 := by
    intro c hc
    rw [hw c hc]
    by_cases e : c = z
    · rw [if_pos e, if_pos e]; decide
    · rw [if_neg e, if_neg e]; decide
  have w0 : ∀ c, c < 6 → 0 ≤ (w c).toInt := by
    intro c hc
    rw [wv c hc]
    by_cases e : c = z
    · rw [if_pos e]; decide
    · rw [if_neg e]; decide
  have wn : ∀ c, c < 6 → c ≠ z → (w c).toInt = 0 := by
    intro c hc e
    rw [wv c hc, if_neg e]
  have wz : (w z).toInt = 1 := by rw [wv z (ww_sm_lt h1.1 hz), if_pos rfl]
  have rows := ww_tab_ok hs rg (bd := bd) (w := w) (l := fun c => 0) (UB := fun _ => 0) w0 hb (fun a c ha hf => by
      have := w0 c (ww_sm_lt h1.1 (ww_fwl hs ha hf).2.2)
      show (0 : Int) ≤ 0 + _
      omega) (fun h hh hn => ⟨fun _ => 0, 0, by
      have nz : ∀ c, bt (lp h) c = true → c ≠ z := by
        intro c hc e
        rw [e, hout h hh] at hc; exact absurd hc (by decide)
      refine ⟨?_, fun c _ => Int.le_refl 0, (show (3 : Int) * 0 ≤ 0 by decide), (show (0 : Int) < 2147483648 by decide), ?_, ?_⟩
      · show _ ≤ (0 : Int)
        rw [wn h hh (nz h (ww_lnz h4 hh hn))]; decide
      · intro a c ha hc hf
        show (0 : Int) + _ ≤ 0
        rw [wn c (ww_sm_lt (h4.1 h hh) hc) (nz c hc)]; decide
      · intro a g c ha hf hg hc
        show (0 : Int) + 0 ≤ 0
        decide⟩)
  have := ww_W_ok hs rg (l := fun _ => 0) (UB := fun _ => 0) (u := fun c => if ww_ps od z n ≤ ww_ps od c n then 1 else 0) w0 ?_ ?_ rows ?_ ?_ ?_ ?_ ?_
  · intro c hc
    rcases this.1 c hc with e | ⟨_, _, e⟩
    · rw [e, ww_far]; decide
    · have e' : _ ≤ (if ww_ps od z n ≤ ww_ps od c n then (1 : Int) else 0) := e
      by_cases q : ww_ps od z n ≤ ww_ps od c n
      · rw [if_pos q] at e'; exact e'
      · rw [if_neg q] at e'; omega
  · intro a c ha hf
    have := w0 c (ww_sm_lt h1.1 (ww_fwl hs ha hf).2.2)
    show (0 : Int) ≤ 0 + _
    omega
  · exact w0 0 (by omega)
  · show _ ≤ (if ww_ps od z n ≤ ww_ps od 0 n then (1 : Int) else 0)
    by_cases e : 0 = z
    · rw [← e, if_pos (Nat.le_refl _), e, wz]; decide
    · rw [wn 0 (by omega) e]
      by_cases q : ww_ps od z n ≤ ww_ps od 0 n
      · rw [if_pos q]; decide
      · rw [if_neg q]; decide
  · intro c hc
    show (0 : Int) ≤ (if ww_ps od z n ≤ ww_ps od c n then (1 : Int) else 0)
    by_cases q : ww_ps od z n ≤ ww_ps od c n
    · rw [if_pos q]; decide
    · rw [if_neg q]; decide
  · intro c hc
    show (if ww_ps od z n ≤ ww_ps od c n then (1 : Int) else 0) < _
    by_cases q : ww_ps od z n ≤ ww_ps od c n
    · rw [if_pos q]; decide
    · rw [if_neg q]; decide
  · intro a c ha hf
    have lt := ww_R2 hs rg ha hf
    have c6 := ww_sm_lt h1.1 (ww_fwl hs ha hf).2.2
    show (if ww_ps od z n ≤ ww_ps od a n then (1 : Int) else 0) + _ ≤ (if ww_ps od z n ≤ ww_ps od c n then (1 : Int) else 0)
    by_cases e : c = z
    · rw [e] at lt ⊢
      rw [wz, if_neg (by omega), if_pos (Nat.le_refl _)]; decide
    · rw [wn c c6 e]
      by_cases q : ww_ps od z n ≤ ww_ps od a n
      · rw [if_pos q, if_pos (by omega)]; decide
      · rw [if_neg q]
        by_cases q2 : ww_ps od z n ≤ ww_ps od c n
        · rw [if_pos q2]; decide
        · rw [if_neg q2]; decide
  · intro a g c ha hf hg hn hc
    have lt := ww_R2 hs rg ha hf
    have d := ww_ldm h1 h2 h3 h4 hg hc
    have le := ww_R3 hs rg _ c (Nat.le_refl _) d.1 d.2
    show (if ww_ps od z n ≤ ww_ps od a n then (1 : Int) else 0) + 0 ≤ (if ww_ps od z n ≤ ww_ps od c n then (1 : Int) else 0)
    by_cases q : ww_ps od z n ≤ ww_ps od a n
    · rw [if_pos q, if_pos (by omega)]; decide
    · rw [if_neg q]
      by_cases q2 : ww_ps od z n ≤ ww_ps od c n
      · rw [if_pos q2]; decide
      · rw [if_neg q2]; decide
/-! the least way -/
def ww_lea1 (fw co : Nat → Int32) (a c : Nat) (r : Nat → Int32) : Nat → Int32 := if bt (fw a) c = true ∧ ¬ r c ≤ r a + co c then upd r c (r a + co c) else r
def ww_lea2 (fw od co : Nat → Int32) (k : Nat) (r : Nat → Int32) : Nat → Int32 := ww_it (ww_lea1 fw co (od k).toNatClampNeg) 0 6 r
def ww_leaI (co r : Nat → Int32) : Nat → Int32 := upd (ww_it (fun c r => upd r c 1000000) 0 6 r) 0 (co 0)
def ww_leaF (fw od : Nat → Int32) (n : Nat) (co r : Nat → Int32) : Nat → Int32 := ww_it (ww_lea2 fw od co) 0 n (ww_leaI co r)
def ww_LI (fw od co : Nat → Int32) (n k b : Nat) (r : Nat → Int32) : Prop :=
  (∀ c, c < 6 → 0 ≤ (r c).toInt ∧ (r c).toInt ≤ 1000000) ∧ (r 0).toInt ≤ (co 0).toInt ∧
  (∀ a c, a < 6 → bt (fw a) c = true → (ww_ps od a n < k ∨ (ww_ps od a n = k ∧ c < b)) → (r c).toInt ≤ (r a).toInt + (co c).toInt)
theorem ww_LI_step {lv : Int32} {n m : Nat} {nx dm fw bk lp od hd : Nat → Int32} (sh : ww_Sh lv n m nx dm fw bk lp od hd) (rg : n = ww_sz lv) {co : Nat → Int32} (hc : ∀ c, c < 6 → 0 ≤ (co c).toInt ∧ (co c).toInt ≤ 50) {k b : Nat} (hk : k < n) (hb : b < 6) {r : Nat → Int32}
    (h : ww_LI fw od co n k b r) : ww_LI fw od co n k (b + 1) (ww_lea1 fw co (od k).toNatClampNeg b r) := by
  have hs := sh
  obtain ⟨_, ns, h1, h2, h3, h4, h5, h6⟩ := sh
  obtain ⟨a, a6, ea, al⟩ := h5.1 k hk
  have ca : (od k).toNatClampNeg = a := by rw [ea, nI_clamp (by omega)]
  have pa : ww_ps od a n = k := ww_ps_at n h5.2.1 hk ea
  rw [ca]
  obtain ⟨i1, i2, i3⟩ := h
  have ra := i1 a a6
  have cb := hc b hb
  have ad : (r a + co b).toInt = (r a).toInt + (co b).toInt := ww_add (by omega) (by omega)
  have same : ∀ x, x < 6 → bt lv x = true → ww_ps od x n = k → x = a := by
    intro x hx hl e
    have := (ww_R1 hs rg hl).2
    rw [e, ea] at this
    exact ((nI_eq (by omega) (by omega)).mp this).symm
  unfold ww_lea1
  by_cases g : bt (fw a) b = true ∧ ¬ r b ≤ r a + co b
  · rw [if_pos g]
    have g2 := g.2
    rw [Int32.le_iff_toInt_le, ad] at g2
    have lt := ww_R2 hs rg a6 g.1
    have dec : ∀ c, (upd r b (r a + co b) c).toInt ≤ (r c).toInt := by
      intro c
      by_cases e : c = b
      · rw [e, pk_us, ad]; omega
      · rw [pk_un e]; exact Int.le_refl _
    refine ⟨fun c hc6 => ?_, Int.le_trans (dec 0) i2, fun x c hx hf q => ?_⟩
    · by_cases e : c = b
      · rw [e, pk_us, ad]; have := i1 b hb; omega
      · rw [pk_un e]; exact i1 c hc6
    · have xb : x ≠ b := by intro e; rw [e] at q; omega
      rw [pk_un xb]
      have xl := (ww_fwl hs hx hf).1
      by_cases e : ww_ps od x n = k ∧ c = b
      · rw [same x hx xl e.1, e.2, pk_us, ad]; exact Int.le_refl _
      · have := i3 x c hx hf (by omega)
        have := dec c
        omega
  · rw [if_neg g]
    refine ⟨i1, i2, fun x c hx hf q => ?_⟩
    have xl := (ww_fwl hs hx hf).1
    by_cases e : ww_ps od x n = k ∧ c = b
    · have xa := same x hx xl e.1
      rw [xa, e.2] at hf
      rw [xa, e.2]
      have : r b ≤ r a + co b := by
        by_cases z : r b ≤ r a + co b
        · exact z
        · exact absurd ⟨hf, z⟩ g
      rw [Int32.le_iff_toInt_le, ad] at this
      exact this
    · exact i3 x c hx hf (by omega)
theorem ww_least_ok {lv : Int32} {n m : Nat} {nx dm fw bk lp od hd : Nat → Int32} (sh : ww_Sh lv n m nx dm fw bk lp od hd) (rg : n = ww_sz lv) {co : Nat → Int32} (hc : ∀ c, c < 6 → 0 ≤ (co c).toInt ∧ (co c).toInt ≤ 50) (r : Nat → Int32) :
    (∀ c, c < 6 → 0 ≤ (ww_leaF fw od n co r c).toInt) ∧ (ww_leaF fw od n co r 0).toInt ≤ (co 0).toInt ∧
    (∀ a c, a < 6 → bt (fw a) c = true → (ww_leaF fw od n co r c).toInt ≤ (ww_leaF fw od n co r a).toInt + (co c).toInt) := by
  have hs := sh
  have v : ∀ c, c < 6 → c ≠ 0 → ww_leaI co r c = 1000000 := by
    intro c hc6 c0
    unfold ww_leaI
    rw [pk_un c0]
    exact ww_ind (fun i s => ∀ c, c < i → s c = 1000000) (fun c r => upd r c 1000000) 6 (by
      intro i s hi h c hc
      show upd s i 1000000 c = 1000000
      by_cases e : c = i
      · rw [e, pk_us]
      · rw [pk_un e]; exact h c (by omega)) 6 0 r rfl (fun c hc => absurd hc (by omega)) c hc6
  have v0 : ww_leaI co r 0 = co 0 := by unfold ww_leaI; rw [pk_us]
  have init : ww_LI fw od co n 0 0 (ww_leaI co r) := by
    refine ⟨fun c hc6 => ?_, by rw [v0]; exact Int.le_refl _, fun a c _ _ q => absurd q (by omega)⟩
    by_cases e : c = 0
    · rw [e, v0]; have := hc 0 (by omega); omega
    · rw [v c hc6 e]; decide
  have fin : ww_LI fw od co n n 0 (ww_leaF fw od n co r) := ww_ind (fun k r => ww_LI fw od co n k 0 r) (ww_lea2 fw od co) n (by
    intro k s hk h
    have := ww_ind (fun b s => ww_LI fw od co n k b s) (ww_lea1 fw co (od k).toNatClampNeg) 6 (fun b s hb h => ww_LI_step hs rg hc hk hb h) 6 0 s rfl h
    obtain ⟨i1, i2, i3⟩ := this
    refine ⟨i1, i2, fun a c ha hf q => i3 a c ha hf ?_⟩
    have c6 := ww_sm_lt hs.2.2.1.1 (ww_fwl hs ha hf).2.2
    omega) n 0 _ (by omega) init
  obtain ⟨i1, i2, i3⟩ := fin
  refine ⟨fun c hc6 => (i1 c hc6).1, i2, fun a c ha hf => i3 a c ha hf (Or.inl ?_)⟩
  exact (ww_R1 hs rg (ww_fwl hs ha hf).1).1
end
section
/-! the walks of the shape's methods -/
theorem ww_6 : (6 : Int32) ≤ nI 6 := by decide
section
variable {post : St1 → Prop} {kn lv od hc : Int32} {a1 a2 a3 a4 a5 a6 a7 a8 a9 a10 a11 a12 : Nat → Int32}
theorem ww_w_live15 {J : Int32 → Int32 → Prop} {r : Nat} {l : Int32} (H : J (nI (r + 1)) (ww_liveR a3 l)) : ∃ n, wX_findLive_15 post J (nI r) kn od hc a1 a2 a3 a4 a5 a6 a7 a8 a9 a10 a11 a12 n 0 l := by
  refine ww_lop (fun n i s => wX_findLive_15 post J (nI r) kn od hc a1 a2 a3 a4 a5 a6 a7 a8 a9 a10 a11 a12 n (nI i) s) (ww_live1 a3) 6 (fun s => J (nI (r + 1)) s) ?_ ?_ 6 0 l rfl H
  · intro n s q
    exact br_t ww_6 (nm_r (nI_1 r) q)
  · intro n i s hi hw
    refine br_f (nI_ge hi (by decide)) (ww_in hi (fun e => nm_r (nI_1 i) ?_) (fun e => ⟨vp_in_nI hi (by decide), nm_r (e' := s ||| a3 i) (by rw [nI_clamp (by omega)]) (nm_r (nI_1 i) ?_)⟩))
    · rw [show ww_live1 a3 i s = s from if_neg (ww_ft e)] at hw; exact hw
    · rw [show ww_live1 a3 i s = s ||| a3 i from if_pos e] at hw; exact hw
theorem ww_w_live (H : post (kn, ww_liveF a3, od, hc, a1, a2, a3, a4, a5, a6, a7, a8, a9, a10, a11, a12)) : wpX_findLive post (kn, lv, od, hc, a1, a2, a3, a4, a5, a6, a7, a8, a9, a10, a11, a12) := by
  refine ww_lop (fun n i s => wX_findLive_7 post kn od hc a1 a2 a3 a4 a5 a6 a7 a8 a9 a10 a11 a12 n (nI i) s) (fun _ l => ww_liveR a3 l) 6 (fun s => post (kn, s, od, hc, a1, a2, a3, a4, a5, a6, a7, a8, a9, a10, a11, a12)) ?_ ?_ 6 0 1 rfl H
  · intro n s q
    exact br_t ww_6 q
  · intro n i s hi hw
    exact br_f (nI_ge hi (by decide)) (ww_w_live15 hw)
theorem ww_w_meet {ps : Int32 → Prop} {b : Nat} (hb : b < 6) (H : ps (ww_meetF lv a3 a4 b)) : wpX_meetOfBefore ps (kn, lv, od, hc, a1, a2, a3, a4, a5, a6, a7, a8, a9, a10, a11, a12) (nI b) := by
  refine ww_lop (fun n i s => wX_meetOfBefore_7 ps (nI b) kn lv od hc a1 a2 a3 a4 a5 a6 a7 a8 a9 a10 a11 a12 n s (nI i)) (ww_meet1 lv a3 a4 b) 6 ps ?_ ?_ 6 0 lv rfl H
  · intro n s q
    exact br_t ww_6 q
  · intro n i s hi hw
    have cl : (nI i).toNatClampNeg = i := nI_clamp (by omega)
    refine br_f (nI_ge hi (by decide)) (ww_in hi (fun e => nm_r (nI_1 i) ?_) (fun e => ⟨vp_in_nI hi (by decide), ?_⟩))
    · rw [show ww_meet1 lv a3 a4 b i s = s from if_neg (fun z => ww_ft e z.1)] at hw; exact hw
    · rw [cl]
      refine ww_in hb (fun e2 => nm_r (nI_1 i) ?_) (fun e2 => ⟨vp_in_nI hi (by decide), nm_e (nm_r (nI_1 i) ?_)⟩)
      · rw [show ww_meet1 lv a3 a4 b i s = s from if_neg (fun z => ww_ft e2 z.2)] at hw; exact hw
      · rw [show ww_meet1 lv a3 a4 b i s = s &&& a4 i from if_pos ⟨e, e2⟩] at hw; exact hw
theorem ww_w_dom57 {J : Int32 → (Nat → Int32) → (Nat → Int32) → (Nat → Int32) → (Nat → Int32) → (Nat → Int32) → (Nat → Int32) → (Nat → Int32) → (Nat → Int32) → (Nat → Int32) → (Nat → Int32) → (Nat → Int32) → (Nat → Int32) → Prop} {r : Nat}
    (H : J (nI (r + 1)) a1 a2 a3 (ww_domR lv a3 a4) a5 a6 a7 a8 a9 a10 a11 a12) : ∃ n, wX_findDominators_57 post J (nI r) kn lv od hc n 1 a1 a2 a3 a4 a5 a6 a7 a8 a9 a10 a11 a12 := by
  refine ww_lop (fun n i s => wX_findDominators_57 post J (nI r) kn lv od hc n (nI i) a1 a2 a3 s a5 a6 a7 a8 a9 a10 a11 a12) (ww_dom1 lv a3) 6 (fun s => J (nI (r + 1)) a1 a2 a3 s a5 a6 a7 a8 a9 a10 a11 a12) ?_ ?_ 5 1 a4 rfl H
  · intro n s q
    exact br_t ww_6 (nm_r (nI_1 r) q)
  · intro n i s hi hw
    have cl : (nI i).toNatClampNeg = i := nI_clamp (by omega)
    refine br_f (nI_ge hi (by decide)) (ww_in hi (fun e => nm_r (nI_1 i) ?_) (fun e => ww_w_meet hi ⟨vp_in_nI hi (by decide), ?_⟩))
    · rw [show ww_dom1 lv a3 i s = s from if_neg (ww_ft e)] at hw; exact hw
    · rw [cl]
      refine nm_e (nm_r (nI_1 i) ?_)
      rw [show ww_dom1 lv a3 i s = upd s i _ from if_pos e] at hw; exact hw
theorem ww_w_dom49 (H : post (kn, lv, od, hc, a1, a2, a3, ww_it (fun _ d => ww_domR lv a3 d) 0 36 a4, a5, a6, a7, a8, a9, a10, a11, a12)) : ∃ n, wX_findDominators_49 post kn lv od hc n 0 a1 a2 a3 a4 a5 a6 a7 a8 a9 a10 a11 a12 := by
  refine ww_lop (fun n i s => wX_findDominators_49 post kn lv od hc n (nI i) a1 a2 a3 s a5 a6 a7 a8 a9 a10 a11 a12) (fun _ d => ww_domR lv a3 d) 36 (fun s => post (kn, lv, od, hc, a1, a2, a3, s, a5, a6, a7, a8, a9, a10, a11, a12)) ?_ ?_ 36 0 a4 rfl H
  · intro n s q
    exact br_t (by decide) q
  · intro n i s hi hw
    exact br_f (nI_ge hi (by decide)) (ww_w_dom57 hw)
theorem ww_w_dom (H : post (kn, lv, od, hc, a1, a2, a3, ww_domF lv a3 a4, a5, a6, a7, a8, a9, a10, a11, a12)) : wpX_findDominators post (kn, lv, od, hc, a1, a2, a3, a4, a5, a6, a7, a8, a9, a10, a11, a12) := by
  refine ww_lop (fun n i s => wX_findDominators_2 post kn lv od hc n (nI i) a1 a2 a3 s a5 a6 a7 a8 a9 a10 a11 a12) (ww_dom0 lv) 6 (fun s => post (kn, lv, od, hc, a1, a2, a3, ww_it (fun _ d => ww_domR lv a3 d) 0 36 (upd s 0 1), a5, a6, a7, a8, a9, a10, a11, a12)) ?_ ?_ 6 0 a4 rfl H
  · intro n s q
    exact br_t ww_6 (nm_e (ww_w_dom49 q))
  · intro n i s hi hw
    have cl : (nI i).toNatClampNeg = i := nI_clamp (by omega)
    refine br_f (nI_ge hi (by decide)) (ww_in hi (fun e => ⟨vp_in_nI hi (by decide), ?_⟩) (fun e => ⟨vp_in_nI hi (by decide), ?_⟩))
    · rw [cl]
      refine nm_e (nm_r (nI_1 i) ?_)
      unfold ww_dom0 at hw
      rw [if_neg (ww_ft e)] at hw; exact hw
    · rw [cl]
      refine nm_e (nm_r (nI_1 i) ?_)
      unfold ww_dom0 at hw
      rw [if_pos e] at hw; exact hw
theorem ww_w_spl38 {J : Int32 → (Nat → Int32) → (Nat → Int32) → (Nat → Int32) → (Nat → Int32) → (Nat → Int32) → (Nat → Int32) → (Nat → Int32) → (Nat → Int32) → (Nat → Int32) → (Nat → Int32) → (Nat → Int32) → (Nat → Int32) → Prop} {a : Nat} (ha : a < 6)
    (H : J (nI (a + 1)) a1 a2 a3 a4 (ww_sp2 lv a3 a4 a (a5, a6)).1 (ww_sp2 lv a3 a4 a (a5, a6)).2 a7 a8 a9 a10 a11 a12) : ∃ n, wX_splitEdges_38 post J (nI a) kn lv od hc n 0 a1 a2 a3 a4 a5 a6 a7 a8 a9 a10 a11 a12 := by
  refine ww_lop (fun n i s => wX_splitEdges_38 post J (nI a) kn lv od hc n (nI i) a1 a2 a3 a4 s.1 s.2 a7 a8 a9 a10 a11 a12) (ww_sp1 lv a3 a4 a) 6 (fun s => J (nI (a + 1)) a1 a2 a3 a4 s.1 s.2 a7 a8 a9 a10 a11 a12) ?_ ?_ 6 0 (a5, a6) rfl H
  · intro n s q
    exact br_t ww_6 (nm_r (nI_1 a) q)
  · intro n i s hi hw
    have cl : (nI i).toNatClampNeg = i := nI_clamp (by omega)
    have ca : (nI a).toNatClampNeg = a := nI_clamp (by omega)
    refine br_f (nI_ge hi (by decide)) (ww_in ha (fun e => nm_r (nI_1 i) ?_) (fun e => ⟨vp_in_nI ha (by decide), ?_⟩))
    · rw [show ww_sp1 lv a3 a4 a i s = s from if_neg (fun z => ww_ft e z.1)] at hw; exact hw
    · rw [ca]
      refine ww_in hi (fun e2 => nm_r (nI_1 i) ?_) (fun e2 => ⟨vp_in_nI ha (by decide), ?_⟩)
      · rw [show ww_sp1 lv a3 a4 a i s = s from if_neg (fun z => ww_ft e2 z.2)] at hw; exact hw
      · refine ww_in hi (fun e3 => ⟨vp_in_nI ha (by decide), vp_in_nI ha (by decide), nm_e (nm_r (nI_1 i) ?_)⟩) (fun e3 => ⟨vp_in_nI hi (by decide), vp_in_nI hi (by decide), ?_⟩)
        · unfold ww_sp1 at hw
          rw [if_pos ⟨e, e2⟩, if_neg (ww_ft e3)] at hw; exact hw
        · rw [cl]
          refine nm_e (nm_r (nI_1 i) ?_)
          unfold ww_sp1 at hw
          rw [if_pos ⟨e, e2⟩, if_pos e3] at hw; exact hw
theorem ww_w_spl30 (H : post (kn, lv, od, hc, a1, a2, a3, a4, (ww_it (ww_sp2 lv a3 a4) 0 6 (a5, a6)).1, (ww_it (ww_sp2 lv a3 a4) 0 6 (a5, a6)).2, a7, a8, a9, a10, a11, a12)) : ∃ n, wX_splitEdges_30 post kn lv od hc n 0 a1 a2 a3 a4 a5 a6 a7 a8 a9 a10 a11 a12 := by
  refine ww_lop (fun n i s => wX_splitEdges_30 post kn lv od hc n (nI i) a1 a2 a3 a4 s.1 s.2 a7 a8 a9 a10 a11 a12) (ww_sp2 lv a3 a4) 6 (fun s => post (kn, lv, od, hc, a1, a2, a3, a4, s.1, s.2, a7, a8, a9, a10, a11, a12)) ?_ ?_ 6 0 (a5, a6) rfl H
  · intro n s q
    exact br_t ww_6 q
  · intro n i s hi hw
    exact br_f (nI_ge hi (by decide)) (ww_w_spl38 hi hw)
theorem ww_w_spl (H : post (kn, lv, od, hc, a1, a2, a3, a4, (ww_spF lv a3 a4 (a5, a6)).1, (ww_spF lv a3 a4 (a5, a6)).2, a7, a8, a9, a10, a11, a12)) : wpX_splitEdges post (kn, lv, od, hc, a1, a2, a3, a4, a5, a6, a7, a8, a9, a10, a11, a12) := by
  refine ww_lop (fun n i s => wX_splitEdges_2 post kn lv od hc n (nI i) a1 a2 a3 a4 s.1 s.2 a7 a8 a9 a10 a11 a12) ww_sp0 6 (fun s => post (kn, lv, od, hc, a1, a2, a3, a4, (ww_it (ww_sp2 lv a3 a4) 0 6 s).1, (ww_it (ww_sp2 lv a3 a4) 0 6 s).2, a7, a8, a9, a10, a11, a12)) ?_ ?_ 6 0 (a5, a6) rfl H
  · intro n s q
    exact br_t ww_6 (ww_w_spl30 q)
  · intro n i s hi hw
    have cl : (nI i).toNatClampNeg = i := nI_clamp (by omega)
    refine br_f (nI_ge hi (by decide)) ⟨vp_in_nI hi (by decide), ?_⟩
    rw [cl]
    exact nm_e ⟨vp_in_nI hi (by decide), nm_e (nm_r (nI_1 i) hw)⟩
theorem ww_w_bef {ps : Int32 → Prop} {b : Nat} (hb : b < 6) (H : ps (ww_befF a5 b)) : wpX_before ps (kn, lv, od, hc, a1, a2, a3, a4, a5, a6, a7, a8, a9, a10, a11, a12) (nI b) := by
  refine ww_lop (fun n i s => wX_before_4 ps (nI b) kn lv od hc a1 a2 a3 a4 a5 a6 a7 a8 a9 a10 a11 a12 n s (nI i)) (ww_bef1 a5 b) 6 ps ?_ ?_ 6 0 0 rfl H
  · intro n s q
    exact br_t ww_6 q
  · intro n i s hi hw
    have cl : (nI i).toNatClampNeg = i := nI_clamp (by omega)
    refine br_f (nI_ge hi (by decide)) ⟨vp_in_nI hi (by decide), ?_⟩
    rw [cl]
    refine ww_in hb (fun e => nm_r (nI_1 i) ?_) (fun e => nm_e (nm_r (nI_1 i) ?_))
    · rw [show ww_bef1 a5 b i s = s from if_neg (ww_ft e)] at hw; exact hw
    · rw [show ww_bef1 a5 b i s = _ from if_pos e] at hw; exact hw
theorem ww_w_size {ps : Int32 → Prop} {x : Int32} (H : ps (nI (ww_sz x))) : wpX_sizeOf ps () x := by
  have main : ∀ k, ww_it (fun b (c : Nat) => c + (bt x b).toNat) 0 k 0 = ww_cn (bt x) k := by
    intro k
    have g := ww_ind (fun i c => c = ww_cn (bt x) i) (fun b (c : Nat) => c + (bt x b).toNat) k (by
      intro i c _ h; rw [h]; rfl) k 0 0 (by omega) rfl
    exact g
  refine ww_lop (fun n i (s : Nat) => wX_sizeOf_4 ps x n (nI s) (nI i)) (fun b c => c + (bt x b).toNat) 6 (fun s => ps (nI s)) ?_ ?_ 6 0 0 rfl (by rw [main]; exact H)
  · intro n s q
    exact br_t ww_6 q
  · intro n i s hi hw
    exact br_f (nI_ge hi (by decide)) (nm_r (e' := nI (s + (bt x i).toNat)) (by rw [ww_bitN x hi, nI_add]) (nm_r (nI_1 i) hw))
end
end
section
/-! the walks of the shape's methods, on -/
section
variable {post : St1 → Prop} {kn lv od hc : Int32} {a1 a2 a3 a4 a5 a6 a7 a8 a9 a10 a11 a12 : Nat → Int32}
theorem ww_w_sort17 {J : Int32 → Int32 → Int32 → (Nat → Int32) → (Nat → Int32) → (Nat → Int32) → (Nat → Int32) → (Nat → Int32) → (Nat → Int32) → (Nat → Int32) → (Nat → Int32) → (Nat → Int32) → (Nat → Int32) → (Nat → Int32) → (Nat → Int32) → Prop} {r : Nat} {s0 : Int32 × Nat × (Nat → Int32)} (h0 : ww_OI lv a5 s0)
    (H : J (ww_it (ww_so1 lv a5) 0 6 s0).1 (nI (r + 1)) (nI (ww_it (ww_so1 lv a5) 0 6 s0).2.1) a1 a2 a3 a4 a5 a6 a7 (ww_it (ww_so1 lv a5) 0 6 s0).2.2 a9 a10 a11 a12) : ∃ n, wX_sort_17 post J (nI r) kn lv hc n s0.1 0 (nI s0.2.1) a1 a2 a3 a4 a5 a6 a7 s0.2.2 a9 a10 a11 a12 := by
  refine ww_loop (fun n i s => wX_sort_17 post J (nI r) kn lv hc n s.1 (nI i) (nI s.2.1) a1 a2 a3 a4 a5 a6 a7 s.2.2 a9 a10 a11 a12) (ww_so1 lv a5) (fun _ s => ww_OI lv a5 s) 6 (fun s => J s.1 (nI (r + 1)) (nI s.2.1) a1 a2 a3 a4 a5 a6 a7 s.2.2 a9 a10 a11 a12) (fun i s hi h => ww_OI_step hi h) ?_ ?_ 6 0 s0 rfl h0 H
  · intro n s _ q
    exact br_t ww_6 (nm_r (nI_1 r) q)
  · intro n i s hi h hw
    refine br_f (nI_ge hi (by decide)) (ww_in hi (fun e => nm_r (nI_1 i) ?_) (fun e => ww_in hi (fun e2 => ww_w_bef hi (br_c (fun e3 => ?_) (fun e3 => nm_r (nI_1 i) ?_))) (fun e2 => nm_r (nI_1 i) ?_)))
    · rw [show ww_so1 lv a5 i s = s from if_neg (fun z => ww_ft e z.1)] at hw; exact hw
    · have room := ww_OI_room h hi e2
      have cl : (nI s.2.1).toNatClampNeg = s.2.1 := nI_clamp (by omega)
      refine ⟨vp_in_nI room (by decide), ?_⟩
      rw [cl]
      refine nm_e (nm_r (nI_1 s.2.1) (nm_e (nm_r (nI_1 i) ?_)))
      rw [show ww_so1 lv a5 i s = _ from if_pos ⟨e, e2, e3⟩] at hw; exact hw
    · rw [show ww_so1 lv a5 i s = s from if_neg (fun z => e3 z.2.2)] at hw; exact hw
    · rw [show ww_so1 lv a5 i s = s from if_neg (fun z => ww_ft z.2.1 e2)] at hw; exact hw
theorem ww_w_sort (H : post (kn, lv, nI (ww_soF lv a5 a8).2.1, hc, a1, a2, a3, a4, a5, a6, a7, (ww_soF lv a5 a8).2.2, a9, a10, a11, a12)) : wpX_sort post (kn, lv, od, hc, a1, a2, a3, a4, a5, a6, a7, a8, a9, a10, a11, a12) := by
  refine ww_loop (fun n i s => wX_sort_9 post kn lv hc n s.1 (nI i) (nI s.2.1) a1 a2 a3 a4 a5 a6 a7 s.2.2 a9 a10 a11 a12) (fun _ s => ww_it (ww_so1 lv a5) 0 6 s) (fun _ s => ww_OI lv a5 s) 6 (fun s => post (kn, lv, nI s.2.1, hc, a1, a2, a3, a4, a5, a6, a7, s.2.2, a9, a10, a11, a12))
    (fun i s hi h => ww_keep _ (ww_OI lv a5) 6 (fun b s hb h => ww_OI_step hb h) 6 0 s rfl h) ?_ ?_ 6 0 (0, 0, a8) rfl (ww_OI_init lv a5 a8) H
  · intro n s _ q
    exact br_t ww_6 q
  · intro n i s hi h hw
    exact br_f (nI_ge hi (by decide)) (ww_w_sort17 h hw)
theorem ww_w_heads15 {J : Int32 → Int32 → (Nat → Int32) → (Nat → Int32) → (Nat → Int32) → (Nat → Int32) → (Nat → Int32) → (Nat → Int32) → (Nat → Int32) → (Nat → Int32) → (Nat → Int32) → (Nat → Int32) → (Nat → Int32) → (Nat → Int32) → Prop} {z : Nat} (hz : z < 7) {s0 : Nat × (Nat → Int32)} (h0 : ww_HI a7 z 0 s0)
    (H : J (nI (z + 1)) (nI (ww_it (ww_lh1 a7 z) 0 6 s0).1) a1 a2 a3 a4 a5 a6 a7 a8 (ww_it (ww_lh1 a7 z) 0 6 s0).2 a10 a11 a12) : ∃ n, wX_listHeads_15 post J (nI z) kn lv od n 0 (nI s0.1) a1 a2 a3 a4 a5 a6 a7 a8 s0.2 a10 a11 a12 := by
  refine ww_loop (fun n i s => wX_listHeads_15 post J (nI z) kn lv od n (nI i) (nI s.1) a1 a2 a3 a4 a5 a6 a7 a8 s.2 a10 a11 a12) (ww_lh1 a7 z) (fun i s => ww_HI a7 z i s) 6 (fun s => J (nI (z + 1)) (nI s.1) a1 a2 a3 a4 a5 a6 a7 a8 s.2 a10 a11 a12) (fun i s hi h => ww_HI_step hi h) ?_ ?_ 6 0 s0 rfl h0 H
  · intro n s _ q
    exact br_t ww_6 (nm_r (nI_1 z) q)
  · intro n i s hi h hw
    have cl : (nI i).toNatClampNeg = i := nI_clamp (by omega)
    refine br_f (nI_ge hi (by decide)) ⟨vp_in_nI hi (by decide), ?_⟩
    rw [cl]
    refine br_c (fun e => nm_r (nI_1 i) ?_) (fun e => ⟨vp_in_nI hi (by decide), ww_w_size (br_c (fun e2 => ?_) (fun e2 => nm_r (nI_1 i) ?_))⟩)
    · rw [show ww_lh1 a7 z i s = s from if_neg (fun q => q.1 e)] at hw; exact hw
    · have s6 : ww_sz (a7 i) ≤ 6 := ww_cn_le _ 6
      have e3 : ww_sz (a7 i) = z := (nI_eq (by omega) (by omega)).mp e2
      have room := ww_HI_room hi h e3
      have ch : (nI s.1).toNatClampNeg = s.1 := nI_clamp (by omega)
      refine ⟨vp_in_nI room (by decide), ?_⟩
      rw [ch]
      refine nm_e (nm_r (nI_1 s.1) (nm_r (nI_1 i) ?_))
      rw [show ww_lh1 a7 z i s = _ from if_pos ⟨e, e3⟩] at hw; exact hw
    · rw [show ww_lh1 a7 z i s = s from if_neg (fun q => e2 (by rw [q.2]))] at hw; exact hw
theorem ww_w_heads (hs : ∀ h, h < 6 → ww_sm (a7 h)) (H : post (kn, lv, od, nI (ww_lhF a7 a9).1, a1, a2, a3, a4, a5, a6, a7, a8, (ww_lhF a7 a9).2, a10, a11, a12)) : wpX_listHeads post (kn, lv, od, hc, a1, a2, a3, a4, a5, a6, a7, a8, a9, a10, a11, a12) := by
  refine ww_loop (fun n i s => wX_listHeads_7 post kn lv od n (nI i) (nI s.1) a1 a2 a3 a4 a5 a6 a7 a8 s.2 a10 a11 a12) (fun z s => ww_it (ww_lh1 a7 z) 0 6 s) (fun z s => ww_HI a7 z 0 s) 7 (fun s => post (kn, lv, od, nI s.1, a1, a2, a3, a4, a5, a6, a7, a8, s.2, a10, a11, a12))
    (fun i s hi h => ww_HI_round h) ?_ ?_ 6 1 (0, a9) rfl (ww_HI_init a9 hs) H
  · intro n s _ q
    exact br_t (by decide) q
  · intro n i s hi h hw
    exact br_f (nI_nlt (a := 6) (b := i) (by omega) (by decide)) (ww_w_heads15 hi h hw)
theorem ww_w_lo33 {ps : Int32 → Prop} {J : Int32 → Int32 → Prop} {h r : Nat} {x : Int32} (H : J (ww_loR lv a3 h x) (nI (r + 1))) : ∃ n, wX_loopOf_33 ps J (nI h) (nI r) kn lv od hc a1 a2 a3 a4 a5 a6 a7 a8 a9 a10 a11 a12 n x 0 := by
  refine ww_lop (fun n i s => wX_loopOf_33 ps J (nI h) (nI r) kn lv od hc a1 a2 a3 a4 a5 a6 a7 a8 a9 a10 a11 a12 n s (nI i)) (ww_lo1 lv a3 h) 6 (fun s => J s (nI (r + 1))) ?_ ?_ 6 0 x rfl H
  · intro n s q
    exact br_t ww_6 (nm_r (nI_1 r) q)
  · intro n i s hi hw
    have cl : (nI i).toNatClampNeg = i := nI_clamp (by omega)
    refine br_f (nI_ge hi (by decide)) (ww_in hi (fun e => nm_r (nI_1 i) ?_) (fun e => ⟨vp_in_nI hi (by decide), ?_⟩))
    · rw [show ww_lo1 lv a3 h i s = s from if_neg (fun z => ww_ft e z.1)] at hw; exact hw
    · rw [cl]
      refine br_c (fun e2 => nm_r (nI_1 i) ?_) (fun e2 => nm_e (nm_r (nI_1 i) ?_))
      · rw [show ww_lo1 lv a3 h i s = s from if_neg (fun z => z.2 e2)] at hw; exact hw
      · rw [show ww_lo1 lv a3 h i s = _ from if_pos ⟨e, e2⟩] at hw; exact hw
theorem ww_w_lo24 {ps : Int32 → Prop} {h : Nat} {x : Int32} (H : ps (ww_it (fun _ s => ww_loR lv a3 h s) 0 6 x)) : ∃ n, wX_loopOf_24 ps (nI h) kn lv od hc a1 a2 a3 a4 a5 a6 a7 a8 a9 a10 a11 a12 n x 0 := by
  refine ww_lop (fun n i s => wX_loopOf_24 ps (nI h) kn lv od hc a1 a2 a3 a4 a5 a6 a7 a8 a9 a10 a11 a12 n s (nI i)) (fun _ s => ww_loR lv a3 h s) 6 ps ?_ ?_ 6 0 x rfl H
  · intro n s q
    exact br_t ww_6 q
  · intro n i s hi hw
    exact br_f (nI_ge hi (by decide)) (ww_w_lo33 hw)
theorem ww_w_lo {ps : Int32 → Prop} {h : Nat} (hh : h < 6) (H : ps (ww_loF lv a3 a6 h)) : wpX_loopOf ps (kn, lv, od, hc, a1, a2, a3, a4, a5, a6, a7, a8, a9, a10, a11, a12) (nI h) := by
  have cl : (nI h).toNatClampNeg = h := nI_clamp (by omega)
  refine ⟨vp_in_nI hh (by decide), ?_⟩
  rw [cl]
  refine br_c (fun e => ?_) (fun e => ⟨vp_in_nI hh (by decide), nm_e (ww_w_lo24 ?_)⟩)
  · rw [show ww_loF lv a3 a6 h = 0 from if_pos e] at H; exact H
  · rw [show ww_loF lv a3 a6 h = _ from if_neg e] at H; exact H
theorem ww_w_learn27 (hs : ∀ h, h < 6 → ww_sm (ww_lps lv a3 a6 a7 h))
    (H : post (kn, lv, nI (ww_soF lv a5 a8).2.1, nI (ww_lhF (ww_lps lv a3 a6 a7) a9).1, a1, a2, a3, a4, a5, a6, ww_lps lv a3 a6 a7, (ww_soF lv a5 a8).2.2, (ww_lhF (ww_lps lv a3 a6 a7) a9).2, a10, a11, a12)) : ∃ n, wX_learn_27 post kn lv od hc n 0 a1 a2 a3 a4 a5 a6 a7 a8 a9 a10 a11 a12 := by
  refine ww_lop (fun n i s => wX_learn_27 post kn lv od hc n (nI i) a1 a2 a3 a4 a5 a6 s a8 a9 a10 a11 a12) (fun h l => upd l h (ww_loF lv a3 a6 h).toInt16.toInt32) 6
    (fun s => s = ww_lps lv a3 a6 a7) ?_ ?_ 6 0 a7 rfl rfl
  · intro n s q
    rw [q]
    exact br_t ww_6 (ww_w_sort (ww_w_heads hs H))
  · intro n i s hi hw
    have cl : (nI i).toNatClampNeg = i := nI_clamp (by omega)
    refine br_f (nI_ge hi (by decide)) (ww_w_lo hi ⟨vp_in_nI hi (by decide), ?_⟩)
    rw [cl]
    exact nm_e (nm_r (nI_1 i) hw)
/-- learn, of a state that is not known yet -/
theorem ww_w_learn0 (hn : ∀ a, a < 6 → ww_sm (a3 a)) (ns : ∀ a, a < 6 → bt (a3 a) a = false)
    (H : ∀ (lv' : Int32) (n m : Nat) (b4 b5 b6 b7 b8 b9 : Nat → Int32), ww_Sh lv' n m a3 b4 b5 b6 b7 b8 b9 → post (1, lv', nI n, nI m, a1, a2, a3, b4, b5, b6, b7, b8, b9, a10, a11, a12)) : wpX_learn post (0, lv, od, hc, a1, a2, a3, a4, a5, a6, a7, a8, a9, a10, a11, a12) := by
  have h1 := ww_live_S1 hn
  have h2 := ww_dom_S2 a4 h1
  have h3 := ww_sp_S3 (dm := ww_domF (ww_liveF a3) a3 a4) (a5, a6) h1
  have h4 := ww_lp_S4 a7 h1.1 hn h3.2.1
  have h5 := ww_so_S5 (fw := (ww_spF (ww_liveF a3) a3 (ww_domF (ww_liveF a3) a3 a4) (a5, a6)).1) a8 h1.1
  have h6 := ww_lh_S6 a9 h4.1
  exact br_t rfl (ww_w_live (ww_w_dom (ww_w_spl (ww_w_learn27 h4.1 (H _ _ _ _ _ _ _ _ _ ⟨hn, ns, h1, h2, h3, h4, h5, h6⟩)))))
theorem ww_w_learn1 (hk : ¬ kn = 0) (H : post (kn, lv, od, hc, a1, a2, a3, a4, a5, a6, a7, a8, a9, a10, a11, a12)) : wpX_learn post (kn, lv, od, hc, a1, a2, a3, a4, a5, a6, a7, a8, a9, a10, a11, a12) := br_f hk H
end
end
section
/-! arrays that are the same below 6 -/
def ww_eq6 (r t : Nat → Int32) : Prop := ∀ c, c < 6 → r c = t c
theorem ww_lift_cg {r t : Nat → Int32} {b : Nat} (hb : b < 6) (x : Int32) (h : ww_eq6 r t) : ww_eq6 (ww_lift r b x) (ww_lift t b x) := by
  unfold ww_lift
  rw [h b hb]
  by_cases e : x ≤ t b
  · rw [if_pos e, if_pos e]; exact h
  · rw [if_neg e, if_neg e]
    intro c hc
    by_cases g : c = b
    · rw [g, pk_us, pk_us]
    · rw [pk_un g, pk_un g]; exact h c hc
theorem ww_come_cg {w : Nat → Int32} {TT : Nat → Nat → Int32} {r t : Nat → Int32} {b : Nat} (hb : b < 6) (head so : Int32) (h : ww_eq6 r t) : ww_eq6 (ww_come w TT b head so r) (ww_come w TT b head so t) := by
  unfold ww_come
  by_cases e : 0 ≤ head
  · rw [if_pos e, if_pos e]
    refine ww_rel ww_eq6 _ _ 6 ?_ 6 0 r t rfl h
    intro i s t hi k
    unfold ww_com1
    by_cases g : TT head.toNatClampNeg i ≤ -1000000
    · rw [if_pos g, if_pos g]; exact k
    · rw [if_neg g, if_neg g]; exact ww_lift_cg hi _ k
  · rw [if_neg e, if_neg e]; exact ww_lift_cg hb _ h
theorem ww_pass_cg {lp hd : Nat → Int32} {m : Nat} {fw od : Nat → Int32} {n : Nat} {w : Nat → Int32} {TT : Nat → Nat → Int32} {part head : Int32} {r t : Nat → Int32} (ho : ∀ k, k < n → ∃ a, a < 6 ∧ od k = nI a) (h : ww_eq6 r t) :
    ww_eq6 (ww_pass lp hd m fw od n w TT part head r) (ww_pass lp hd m fw od n w TT part head t) := by
  refine ww_rel ww_eq6 _ _ n ?_ n 0 r t (by omega) h
  intro k r t hk h
  obtain ⟨a, a6, ea⟩ := ho k hk
  have ca : (od k).toNatClampNeg = a := by rw [ea, nI_clamp (by omega)]
  unfold ww_pas2
  rw [ca, h a a6]
  by_cases e : bt part a = true ∧ ¬ t a ≤ -1000000
  · rw [if_pos e, if_pos e]
    refine ww_rel ww_eq6 _ _ 6 ?_ 6 0 r t rfl h
    intro b r t hb h
    unfold ww_pas1 ww_step
    by_cases g : bt (fw a &&& part) b = true
    · rw [if_pos g, if_pos g, h a a6]
      by_cases d : ww_LL lp hd m a part head < 0 ∨ ¬ ww_LL lp hd m a part head = ww_LL lp hd m b part head
      · rw [if_pos d, if_pos d]; exact ww_come_cg hb _ _ h
      · rw [if_neg d, if_neg d]; exact h
    · rw [if_neg g, if_neg g]; exact h
  · rw [if_neg e, if_neg e]; exact h
theorem ww_rnd_cg {bk r t : Nat → Int32} {h : Nat} (k : ww_eq6 r t) : ww_rnd bk r h = ww_rnd bk t h := by
  refine ww_rel (fun x y => x = y) _ _ 6 ?_ 6 0 0 0 rfl rfl
  intro i x y hi e
  unfold ww_rnd1
  rw [e, k i hi]
theorem ww_row_cg {bd bk r t : Nat → Int32} {h c : Nat} (k : ww_eq6 r t) (hc : c < 6) : ww_row bd bk r h c = ww_row bd bk t h c := by
  unfold ww_row
  rw [k c hc, ww_rnd_cg k]
def ww_gr (r : Nat → Int32) : Int32 := ww_it (fun b x => if r b ≤ x then x else r b) 0 6 0
theorem ww_gr_cg {r t : Nat → Int32} (k : ww_eq6 r t) : ww_gr r = ww_gr t := by
  refine ww_rel (fun x y => x = y) _ _ 6 ?_ 6 0 0 0 rfl rfl
  intro i x y hi e
  show (if r i ≤ x then x else r i) = (if t i ≤ y then y else t i)
  rw [e, k i hi]
theorem ww_it_snoc {σ : Type} (f : Nat → σ → σ) : ∀ k i s, ww_it f i (k + 1) s = f (i + k) (ww_it f i k s) := by
  intro k
  induction k with
  | zero => intro i s; rfl
  | succ k ih =>
    intro i s
    show ww_it f (i + 1) (k + 1) (f i s) = f (i + (k + 1)) (ww_it f (i + 1) k (f i s))
    rw [ih (i + 1) (f i s), show i + 1 + k = i + (k + 1) by omega]
def ww_begF (r : Nat → Int32) : Nat → Int32 := ww_it (fun b r => upd r b (-1000000)) 0 6 r
theorem ww_beg_eq (r : Nat → Int32) : ww_eq6 (ww_begF r) ww_farF :=
  ww_ind (fun i s => ∀ c, c < i → s c = -1000000) (fun b r => upd r b (-1000000)) 6 (by
    intro i s hi h c hc
    show upd s i (-1000000) c = -1000000
    by_cases e : c = i
    · rw [e, pk_us]
    · rw [pk_un e]; exact h c (by omega)) 6 0 r rfl (fun c hc => absurd hc (by omega))
def ww_useF (co w : Nat → Int32) : Nat → Int32 := ww_it (fun b r => upd r b (co b)) 0 6 w
theorem ww_use_eq (co w : Nat → Int32) : ww_eq6 (ww_useF co w) co :=
  ww_ind (fun i (s : Nat → Int32) => ∀ c, c < i → s c = co c) (fun b r => upd r b (co b)) 6 (by
    intro i s hi h c hc
    show upd s i (co i) c = co c
    by_cases e : c = i
    · rw [e, pk_us]
    · rw [pk_un e]; exact h c (by omega)) 6 0 w rfl (fun c hc => absurd hc (by omega))
/-! the walks of the weights' methods -/
section
variable {post : St1 → Prop} {kn lv od hc : Int32} {a1 a2 a3 a4 a5 a6 a7 a8 a9 a10 a11 a12 : Nat → Int32}
theorem ww_w_use (H : post (kn, lv, od, hc, a1, a2, a3, a4, a5, a6, a7, a8, a9, ww_useF a1 a10, a11, a12)) : wpX_useCosts post (kn, lv, od, hc, a1, a2, a3, a4, a5, a6, a7, a8, a9, a10, a11, a12) := by
  refine ww_lop (fun n i s => wX_useCosts_2 post kn lv od hc n (nI i) a1 a2 a3 a4 a5 a6 a7 a8 a9 s a11 a12) (fun b r => upd r b (a1 b)) 6 (fun s => post (kn, lv, od, hc, a1, a2, a3, a4, a5, a6, a7, a8, a9, s, a11, a12)) ?_ ?_ 6 0 a10 rfl H
  · intro n s q
    exact br_t ww_6 q
  · intro n i s hi hw
    have cl : (nI i).toNatClampNeg = i := nI_clamp (by omega)
    refine br_f (nI_ge hi (by decide)) ⟨vp_in_nI hi (by decide), vp_in_nI hi (by decide), ?_⟩
    rw [cl]
    exact nm_e (nm_r (nI_1 i) hw)
theorem ww_w_beg (H : post (kn, lv, od, hc, a1, a2, a3, a4, a5, a6, a7, a8, a9, a10, a11, ww_begF a12)) : wpX_begin post (kn, lv, od, hc, a1, a2, a3, a4, a5, a6, a7, a8, a9, a10, a11, a12) := by
  refine ww_lop (fun n i s => wX_begin_2 post kn lv od hc n (nI i) a1 a2 a3 a4 a5 a6 a7 a8 a9 a10 a11 s) (fun b r => upd r b (-1000000)) 6 (fun s => post (kn, lv, od, hc, a1, a2, a3, a4, a5, a6, a7, a8, a9, a10, a11, s)) ?_ ?_ 6 0 a12 rfl H
  · intro n s q
    exact br_t ww_6 q
  · intro n i s hi hw
    have cl : (nI i).toNatClampNeg = i := nI_clamp (by omega)
    refine br_f (nI_ge hi (by decide)) ⟨vp_in_nI hi (by decide), ?_⟩
    rw [cl]
    exact nm_e (nm_r (nI_1 i) hw)
theorem ww_w_LL {ps : Int32 → Prop} {b m : Nat} {part head : Int32} (hb : b < 6) (hm : m ≤ 6) (hh : ∀ k, k < m → ∃ h, h < 6 ∧ a9 k = nI h) (H : ps (ww_LL a7 a9 m b part head)) : wpX_largestLoop ps (kn, lv, od, nI m, a1, a2, a3, a4, a5, a6, a7, a8, a9, a10, a11, a12) (nI b) part head := by
  refine ww_lop (fun n i s => wX_largestLoop_6 ps (nI b) part head kn lv od (nI m) a1 a2 a3 a4 a5 a6 a7 a8 a9 a10 a11 a12 n s (nI i)) (ww_LL1 a7 a9 b part head) m ps ?_ ?_ m 0 (-1) (by omega) H
  · intro n s q
    exact br_t (nI_le (Nat.le_refl m) (by omega)) q
  · intro n i s hi hw
    have cl : (nI i).toNatClampNeg = i := nI_clamp (by omega)
    obtain ⟨h, h6, eh⟩ := hh i hi
    have ch : (nI h).toNatClampNeg = h := nI_clamp (by omega)
    have e1 : ww_LL1 a7 a9 b part head i s = if ¬ nI h = head ∧ bt (a7 h) b = true ∧ (a7 h &&& (part ^^^ (-1))) = 0 then nI h else s := by unfold ww_LL1; rw [eh, ch]
    rw [e1] at hw
    refine br_f (nI_ge hi (by omega)) ⟨vp_in_nI (show i < 6 by omega) (by decide), ?_⟩
    rw [cl]
    refine nm_r eh (br_c (fun e => nm_r (nI_1 i) ?_) (fun e => ⟨vp_in_nI h6 (by decide), ?_⟩))
    · rw [if_neg (fun z => z.1 e)] at hw; exact hw
    · rw [ch]
      refine ww_in hb (fun e2 => nm_r (nI_1 i) ?_) (fun e2 => ⟨vp_in_nI h6 (by decide), br_c (fun e3 => nm_r (nI_1 i) ?_) (fun e3 => nm_r (nI_1 i) ?_)⟩)
      · rw [if_neg (fun z => ww_ft e2 z.2.1)] at hw; exact hw
      · rw [if_pos ⟨e, e2, e3⟩] at hw; exact hw
      · rw [if_neg (fun z => e3 z.2.2)] at hw; exact hw
theorem ww_w_lift {b : Nat} {x : Int32} (hb : b < 6) (H : post (kn, lv, od, hc, a1, a2, a3, a4, a5, a6, a7, a8, a9, a10, a11, ww_lift a12 b x)) : wpX_lift post (kn, lv, od, hc, a1, a2, a3, a4, a5, a6, a7, a8, a9, a10, a11, a12) (nI b) x := by
  have cl : (nI b).toNatClampNeg = b := nI_clamp (by omega)
  refine ⟨vp_in_nI hb (by decide), ?_⟩
  rw [cl]
  refine br_c (fun e => ?_) (fun e => ⟨vp_in_nI hb (by decide), nm_e ?_⟩)
  · rw [show ww_lift a12 b x = a12 from if_pos e] at H; exact H
  · rw [show ww_lift a12 b x = _ from if_neg e] at H; exact H
/-- the rows of the table that a head names lie in the array -/
def ww_hr (L : Nat → Int32) (TT : Nat → Nat → Int32) (head : Int32) : Prop := head = -1 ∨ ∃ g, g < 6 ∧ head = nI g ∧ ∀ c, c < 6 → L (g * 6 + c) = TT g c
theorem ww_w_come {TT : Nat → Nat → Int32} {b : Nat} {head so : Int32} (hb : b < 6) (hr : ww_hr a11 TT head) (H : post (kn, lv, od, hc, a1, a2, a3, a4, a5, a6, a7, a8, a9, a10, a11, ww_come a10 TT b head so a12)) : wpX_comeTo post (kn, lv, od, hc, a1, a2, a3, a4, a5, a6, a7, a8, a9, a10, a11, a12) (nI b) head so := by
  rcases hr with e | ⟨g, g6, e, hr⟩
  · rw [e] at H ⊢
    rw [ww_come_m] at H
    have cl : (nI b).toNatClampNeg = b := nI_clamp (by omega)
    refine br_f (by decide) ⟨vp_in_nI hb (by decide), ?_⟩
    rw [cl]
    exact ww_w_lift hb H
  · rw [e] at H ⊢
    rw [ww_come_g a10 TT b g6] at H
    refine br_t (nI_pos' (by omega)) ?_
    refine ww_lop (fun n i s => wX_comeTo_21 post (nI g) so n (nI i) kn lv od hc a1 a2 a3 a4 a5 a6 a7 a8 a9 a10 a11 s) (ww_com1 TT g so) 6 (fun s => post (kn, lv, od, hc, a1, a2, a3, a4, a5, a6, a7, a8, a9, a10, a11, s)) ?_ ?_ 6 0 a12 rfl H
    · intro n s q
      exact br_t ww_6 q
    · intro n i s hi hw
      have ei : nI g * 6 + nI i = nI (g * 6 + i) := by rw [show (6 : Int32) = nI 6 from rfl, pk_mul, nI_add]
      have cl : (nI (g * 6 + i)).toNatClampNeg = g * 6 + i := nI_clamp (by omega)
      refine br_f (nI_ge hi (by decide)) ?_
      rw [ei, cl, hr i hi]
      refine ⟨vp_in_nI (by omega) (by decide), br_c (fun e => nm_r (nI_1 i) ?_) (fun e => ⟨vp_in_nI (by omega) (by decide), ww_w_lift hi (nm_r (nI_1 i) ?_)⟩)⟩
      · rw [show ww_com1 TT g so i s = s from if_pos e] at hw; exact hw
      · rw [show ww_com1 TT g so i s = _ from if_neg e] at hw; exact hw
theorem ww_w_step {TT : Nat → Nat → Int32} {a b : Nat} {fr to : Int32} (ha : a < 6) (hb : b < 6) (hr : ww_hr a11 TT to) (H : post (kn, lv, od, hc, a1, a2, a3, a4, a5, a6, a7, a8, a9, a10, a11, ww_step a10 TT a b fr to a12)) : wpX_step post (kn, lv, od, hc, a1, a2, a3, a4, a5, a6, a7, a8, a9, a10, a11, a12) (nI a) (nI b) fr to := by
  have cl : (nI a).toNatClampNeg = a := nI_clamp (by omega)
  have go : (fr < 0 ∨ ¬ fr = to) → wX_step_10 post (nI a) (nI b) to kn lv od hc a1 a2 a3 a4 a5 a6 a7 a8 a9 a10 a11 a12 := by
    intro d
    refine ⟨vp_in_nI ha (by decide), ?_⟩
    rw [cl]
    refine ww_w_come hb hr ?_
    rw [show ww_step a10 TT a b fr to a12 = _ from if_pos d] at H; exact H
  refine br_c (fun e => go (Or.inl e)) (fun e => br_c (fun e2 => ?_) (fun e2 => go (Or.inr e2)))
  rw [show ww_step a10 TT a b fr to a12 = a12 from if_neg (fun d => d.elim e (fun d => d e2))] at H; exact H
theorem ww_w_pass52 {J : Int32 → Int32 → Int32 → Int32 → Int32 → (Nat → Int32) → (Nat → Int32) → (Nat → Int32) → (Nat → Int32) → (Nat → Int32) → (Nat → Int32) → (Nat → Int32) → (Nat → Int32) → (Nat → Int32) → (Nat → Int32) → (Nat → Int32) → (Nat → Int32) → Prop}
    {TT : Nat → Nat → Int32} {m k a : Nat} {part head fr : Int32} (ha : a < 6) (hm : m ≤ 6) (hh : ∀ k, k < m → ∃ h, h < 6 ∧ a9 k = nI h) (hr : ∀ b, b < 6 → ww_hr a11 TT (ww_LL a7 a9 m b part head))
    (H : J (nI (k + 1)) kn lv od (nI m) a1 a2 a3 a4 a5 a6 a7 a8 a9 a10 a11 (ww_it (ww_pas1 a7 a9 m a5 a10 TT part head a fr) 0 6 a12)) : ∃ n, wX_pass_52 post J part head (nI k) (nI a) fr n 0 kn lv od (nI m) a1 a2 a3 a4 a5 a6 a7 a8 a9 a10 a11 a12 := by
  refine ww_lop (fun n i s => wX_pass_52 post J part head (nI k) (nI a) fr n (nI i) kn lv od (nI m) a1 a2 a3 a4 a5 a6 a7 a8 a9 a10 a11 s) (ww_pas1 a7 a9 m a5 a10 TT part head a fr) 6 (fun s => J (nI (k + 1)) kn lv od (nI m) a1 a2 a3 a4 a5 a6 a7 a8 a9 a10 a11 s) ?_ ?_ 6 0 a12 rfl H
  · intro n s q
    exact br_t ww_6 (nm_r (nI_1 k) q)
  · intro n i s hi hw
    have cl : (nI a).toNatClampNeg = a := nI_clamp (by omega)
    refine br_f (nI_ge hi (by decide)) ⟨vp_in_nI ha (by decide), ?_⟩
    rw [cl]
    refine ww_in hi (fun e => nm_r (nI_1 i) ?_) (fun e => ww_w_LL hi hm hh (ww_w_step (TT := TT) ha hi (hr i hi) (nm_r (nI_1 i) ?_)))
    · rw [show ww_pas1 a7 a9 m a5 a10 TT part head a fr i s = s from if_neg (ww_ft e)] at hw; exact hw
    · rw [show ww_pas1 a7 a9 m a5 a10 TT part head a fr i s = _ from if_pos e] at hw; exact hw
theorem ww_w_pass {TT : Nat → Nat → Int32} {n m : Nat} {part head : Int32} (hn : n ≤ 6) (ho : ∀ k, k < n → ∃ a, a < 6 ∧ a8 k = nI a) (hm : m ≤ 6) (hh : ∀ k, k < m → ∃ h, h < 6 ∧ a9 k = nI h) (hr : ∀ b, b < 6 → ww_hr a11 TT (ww_LL a7 a9 m b part head))
    (H : post (kn, lv, nI n, nI m, a1, a2, a3, a4, a5, a6, a7, a8, a9, a10, a11, ww_pass a7 a9 m a5 a8 n a10 TT part head a12)) : wpX_pass post (kn, lv, nI n, nI m, a1, a2, a3, a4, a5, a6, a7, a8, a9, a10, a11, a12) part head := by
  refine ww_lop (fun f i s => wX_pass_2 post part head f (nI i) kn lv (nI n) (nI m) a1 a2 a3 a4 a5 a6 a7 a8 a9 a10 a11 s) (ww_pas2 a7 a9 m a5 a8 a10 TT part head) n (fun s => post (kn, lv, nI n, nI m, a1, a2, a3, a4, a5, a6, a7, a8, a9, a10, a11, s)) ?_ ?_ n 0 a12 (by omega) H
  · intro f s q
    exact br_t (nI_le (Nat.le_refl n) (by omega)) q
  · intro f i s hi hw
    have cl : (nI i).toNatClampNeg = i := nI_clamp (by omega)
    obtain ⟨a, a6, ea⟩ := ho i hi
    have ca : (nI a).toNatClampNeg = a := nI_clamp (by omega)
    unfold ww_pas2 at hw
    rw [ea, ca] at hw
    refine br_f (nI_ge hi (by omega)) ⟨vp_in_nI (show i < 6 by omega) (by decide), ?_⟩
    rw [cl]
    refine nm_r ea (ww_in a6 (fun e => nm_r (nI_1 i) ?_) (fun e => ⟨vp_in_nI a6 (by decide), ?_⟩))
    · rw [if_neg (fun z => ww_ft e z.1)] at hw; exact hw
    · rw [ca]
      refine br_c (fun e2 => nm_r (nI_1 i) ?_) (fun e2 => ww_w_LL a6 hm hh (ww_w_pass52 (TT := TT) a6 hm hh hr ?_))
      · rw [if_neg (fun z => z.2 e2)] at hw; exact hw
      · rw [if_pos ⟨e, e2⟩] at hw; exact hw
theorem ww_w_great {ps : Int32 → Prop} (H : ps (ww_gr a12)) : wpX_greatestReach ps (kn, lv, od, hc, a1, a2, a3, a4, a5, a6, a7, a8, a9, a10, a11, a12) := by
  refine ww_lop (fun n i s => wX_greatestReach_4 ps kn lv od hc a1 a2 a3 a4 a5 a6 a7 a8 a9 a10 a11 a12 n s (nI i)) (fun b x => if a12 b ≤ x then x else a12 b) 6 ps ?_ ?_ 6 0 0 rfl H
  · intro n s q
    exact br_t ww_6 q
  · intro n i s hi hw
    have cl : (nI i).toNatClampNeg = i := nI_clamp (by omega)
    have hw' : wX_greatestReach_4 ps kn lv od hc a1 a2 a3 a4 a5 a6 a7 a8 a9 a10 a11 a12 n (if a12 i ≤ s then s else a12 i) (nI (i + 1)) := hw
    refine br_f (nI_ge hi (by decide)) ⟨vp_in_nI hi (by decide), ?_⟩
    rw [cl]
    refine br_c (fun e => nm_r (nI_1 i) ?_) (fun e => ⟨vp_in_nI hi (by decide), nm_e (nm_r (nI_1 i) ?_)⟩)
    · rw [if_pos e] at hw'; exact hw'
    · rw [if_neg e] at hw'; exact hw'
end
end
section
/-! a loop is summed up; all loops, and then the walks -/
def ww_fill1 (r bd : Nat → Int32) (h : Nat) (x : Int32) (b : Nat) (L : Nat → Int32) : Nat → Int32 := upd L (h * 6 + b) (if r b ≤ -1000000 then -1000000 else r b + (bd h - 1) * x)
theorem ww_fill_at {r bd L : Nat → Int32} {h : Nat} {x : Int32} :
    (∀ c, c < 6 → ww_it (ww_fill1 r bd h x) 0 6 L (h * 6 + c) = (if r c ≤ -1000000 then -1000000 else r c + (bd h - 1) * x)) ∧ ∀ j, (j < h * 6 ∨ h * 6 + 6 ≤ j) → ww_it (ww_fill1 r bd h x) 0 6 L j = L j := by
  refine ww_ind (fun i (s : Nat → Int32) => (∀ c, c < i → s (h * 6 + c) = (if r c ≤ -1000000 then -1000000 else r c + (bd h - 1) * x)) ∧ ∀ j, (j < h * 6 ∨ h * 6 + 6 ≤ j) → s j = L j) (ww_fill1 r bd h x) 6 ?_ 6 0 L rfl ⟨fun c hc => absurd hc (by omega), fun j _ => rfl⟩
  intro i s hi ⟨k1, k2⟩
  unfold ww_fill1
  refine ⟨fun c hc => ?_, fun j hj => ?_⟩
  · by_cases e : c = i
    · rw [e, pk_us]
    · rw [pk_un (by omega)]; exact k1 c (by omega)
  · rw [pk_un (by omega)]; exact k2 j hj
section
variable {post : St1 → Prop} {kn lv od hc : Int32} {a1 a2 a3 a4 a5 a6 a7 a8 a9 a10 a11 a12 : Nat → Int32}
theorem ww_w_sum75 {h : Nat} {x : Int32} (hh : h < 6) (H : post (kn, lv, od, hc, a1, a2, a3, a4, a5, a6, a7, a8, a9, a10, ww_it (ww_fill1 a12 a2 h x) 0 6 a11, a12)) : ∃ n, wX_sumUp_75 post (nI h) x kn lv od hc n 0 a1 a2 a3 a4 a5 a6 a7 a8 a9 a10 a11 a12 := by
  refine ww_lop (fun n i s => wX_sumUp_75 post (nI h) x kn lv od hc n (nI i) a1 a2 a3 a4 a5 a6 a7 a8 a9 a10 s a12) (ww_fill1 a12 a2 h x) 6 (fun s => post (kn, lv, od, hc, a1, a2, a3, a4, a5, a6, a7, a8, a9, a10, s, a12)) ?_ ?_ 6 0 a11 rfl H
  · intro n s q
    exact br_t ww_6 q
  · intro n i s hi hw
    have ei : nI h * 6 + nI i = nI (h * 6 + i) := by rw [show (6 : Int32) = nI 6 from rfl, pk_mul, nI_add]
    have cx : (nI (h * 6 + i)).toNatClampNeg = h * 6 + i := nI_clamp (by omega)
    have cl : (nI i).toNatClampNeg = i := nI_clamp (by omega)
    have ch : (nI h).toNatClampNeg = h := nI_clamp (by omega)
    unfold ww_fill1 at hw
    refine br_f (nI_ge hi (by decide)) ⟨vp_in_nI hi (by decide), ?_⟩
    rw [ei, cx, cl, ch]
    refine br_c (fun e => ⟨vp_in_nI (by omega) (by decide), nm_e (nm_r (nI_1 i) ?_)⟩) (fun e => ⟨vp_in_nI hi (by decide), vp_in_nI hh (by decide), vp_in_nI (by omega) (by decide), nm_e (nm_r (nI_1 i) ?_)⟩)
    · rw [if_pos e] at hw; exact hw
    · rw [if_neg e] at hw; exact hw
theorem ww_w_sum31 {h : Nat} (hh : h < 6) (H : post (kn, lv, od, hc, a1, a2, a3, a4, a5, a6, a7, a8, a9, a10, ww_it (ww_fill1 a12 a2 h (ww_rnd a6 a12 h)) 0 6 a11, a12)) : ∃ n, wX_sumUp_31 post (nI h) kn lv od hc a1 a2 a3 a4 a5 a6 a7 a8 a9 a10 a11 a12 n 0 0 := by
  refine ww_lop (fun n i s => wX_sumUp_31 post (nI h) kn lv od hc a1 a2 a3 a4 a5 a6 a7 a8 a9 a10 a11 a12 n s (nI i)) (ww_rnd1 a6 a12 h) 6 (fun s => post (kn, lv, od, hc, a1, a2, a3, a4, a5, a6, a7, a8, a9, a10, ww_it (ww_fill1 a12 a2 h s) 0 6 a11, a12)) ?_ ?_ 6 0 0 rfl H
  · intro n s q
    exact br_t ww_6 (ww_w_sum75 hh q)
  · intro n i s hi hw
    have cl : (nI i).toNatClampNeg = i := nI_clamp (by omega)
    have ch : (nI h).toNatClampNeg = h := nI_clamp (by omega)
    refine br_f (nI_ge hi (by decide)) ⟨vp_in_nI hh (by decide), ?_⟩
    rw [ch, cl]
    refine ww_in hi (fun e => nm_r (nI_1 i) ?_) (fun e => ⟨vp_in_nI hi (by decide), br_c (fun e2 => nm_r (nI_1 i) ?_) (fun e2 => ⟨vp_in_nI hi (by decide), nm_e (nm_r (nI_1 i) ?_)⟩)⟩)
    · rw [show ww_rnd1 a6 a12 h i s = s from if_neg (fun z => ww_ft e z.1)] at hw; exact hw
    · rw [show ww_rnd1 a6 a12 h i s = s from if_neg (fun z => z.2 e2)] at hw; exact hw
    · rw [show ww_rnd1 a6 a12 h i s = _ from if_pos ⟨e, e2⟩] at hw; exact hw
theorem ww_w_sum {TT : Nat → Nat → Int32} {n m h : Nat} (hh6 : h < 6) (hn : n ≤ 6) (ho : ∀ k, k < n → ∃ a, a < 6 ∧ a8 k = nI a) (hm : m ≤ 6) (hh : ∀ k, k < m → ∃ h, h < 6 ∧ a9 k = nI h) (hr : ∀ b, b < 6 → ww_hr a11 TT (ww_LL a7 a9 m b (a7 h) (nI h)))
    (H : ∀ L r, (∀ c, c < 6 → L (h * 6 + c) = ww_row a2 a6 (ww_sumR a7 a9 m a5 a8 n a10 TT h) h c) → (∀ j, (j < h * 6 ∨ h * 6 + 6 ≤ j) → L j = a11 j) → post (kn, lv, nI n, nI m, a1, a2, a3, a4, a5, a6, a7, a8, a9, a10, L, r)) : wpX_sumUp post (kn, lv, nI n, nI m, a1, a2, a3, a4, a5, a6, a7, a8, a9, a10, a11, a12) (nI h) := by
  have ch : (nI h).toNatClampNeg = h := nI_clamp (by omega)
  refine ww_w_beg ⟨vp_in_nI hh6 (by decide), vp_in_nI hh6 (by decide), ?_⟩
  rw [ch]
  refine nm_e ⟨vp_in_nI hh6 (by decide), ww_w_pass (TT := TT) hn ho hm hh hr (ww_w_sum31 hh6 (H _ _ ?_ ?_))⟩
  · intro c hc
    rw [ww_fill_at.1 c hc]
    have e6 : ww_eq6 (ww_pass a7 a9 m a5 a8 n a10 TT (a7 h) (nI h) (upd (ww_begF a12) h (a10 h))) (ww_sumR a7 a9 m a5 a8 n a10 TT h) := by
      refine ww_pass_cg ho ?_
      intro c hc
      by_cases e : c = h
      · rw [e, pk_us, pk_us]
      · rw [pk_un e, pk_un e]; exact ww_beg_eq a12 c hc
    exact ww_row_cg e6 hc
  · exact ww_fill_at.2
/-- the rows that a part's loops name are done -/
theorem ww_hr_of {n m : Nat} (sh : ww_Sh lv n m a3 a4 a5 a6 a7 a8 a9) {L : Nat → Int32} {TT : Nat → Nat → Int32} {part head : Int32} (h : ∀ g, ww_Lp a7 part head g → ∀ c, c < 6 → L (g * 6 + c) = TT g c) : ∀ b, b < 6 → ww_hr L TT (ww_LL a7 a9 m b part head) := by
  intro b hb
  rcases ww_LL_spec sh b part head with ⟨e, _⟩ | ⟨g, e, k1, _, _⟩
  · exact Or.inl e
  · exact Or.inr ⟨g, k1.1, e, h g k1⟩
theorem ww_w_weigh {n m : Nat} (sh : ww_Sh lv n m a3 a4 a5 a6 a7 a8 a9) (H : ∀ L r, ww_eq6 r (ww_W lv a7 a9 m a5 a8 n a6 a2 a10) → post (kn, lv, nI n, nI m, a1, a2, a3, a4, a5, a6, a7, a8, a9, a10, L, r)) : wpX_weigh post (kn, lv, nI n, nI m, a1, a2, a3, a4, a5, a6, a7, a8, a9, a10, a11, a12) := by
  have hs := sh
  obtain ⟨_, _, h1, h2, h3, h4, h5, h6⟩ := sh
  have n6 := h5.2.2.2.1
  have m6 := h6.2.2.2
  have ho : ∀ k, k < n → ∃ a, a < 6 ∧ a8 k = nI a := fun k hk => by
    obtain ⟨b, b1, b2, _⟩ := h5.1 k hk
    exact ⟨b, b1, b2⟩
  have hh : ∀ k, k < m → ∃ h, h < 6 ∧ a9 k = nI h := fun k hk => by
    obtain ⟨b, b1, b2, _⟩ := h6.1 k hk
    exact ⟨b, b1, b2⟩
  refine pk_loop (fun f i (s : (Nat → Int32) × (Nat → Int32)) => wX_weigh_2 post f (nI i) kn lv (nI n) (nI m) a1 a2 a3 a4 a5 a6 a7 a8 a9 a10 s.1 s.2)
    (fun i s => ∀ j g, j < i → a9 j = nI g → g < 6 → ∀ c, c < 6 → s.1 (g * 6 + c) = ww_tab a7 a9 m a5 a8 n a6 a2 a10 i g c) m 0 (a11, a12) (by omega) (fun j g hj => absurd hj (by omega)) ?_ ?_
  · intro f s I
    have done : ∀ g, ww_Lp a7 lv (-1) g → ∀ c, c < 6 → s.1 (g * 6 + c) = ww_tab a7 a9 m a5 a8 n a6 a2 a10 m g c := by
      intro g lg c hc
      obtain ⟨j, j1, j2⟩ := h6.2.1 g lg.1 lg.2.1
      exact I j g j1 j2 lg.1 c hc
    have hr := ww_hr_of hs done
    refine br_t (nI_le (Nat.le_refl m) (by omega)) (ww_w_beg (ww_w_LL (b := 0) (by omega) m6 hh (ww_w_come (b := 0) (TT := ww_tab a7 a9 m a5 a8 n a6 a2 a10 m) (by omega) (hr 0 (by omega)) (ww_w_pass (TT := ww_tab a7 a9 m a5 a8 n a6 a2 a10 m) n6 ho m6 hh hr (H _ _ ?_)))))
    exact ww_pass_cg ho (ww_come_cg (by omega) _ _ (ww_beg_eq s.2))
  · intro f i s hi I next
    obtain ⟨q, q1, q2, q3⟩ := h6.1 i hi
    have cl : (nI i).toNatClampNeg = i := nI_clamp (by omega)
    have cq : (a9 i).toNatClampNeg = q := by rw [q2, nI_clamp (by omega)]
    refine br_f (nI_ge hi (by omega)) ⟨vp_in_nI (show i < 6 by omega) (by decide), ?_⟩
    rw [cl, q2]
    refine ww_w_sum (TT := ww_tab a7 a9 m a5 a8 n a6 a2 a10 i) q1 n6 ho m6 hh (ww_hr_of hs ?_) (fun L r hL ho => nm_r (nI_1 i) (next (L, r) ?_))
    · intro g lg c hc
      have ne : g ≠ q := by intro z; rw [z] at lg; exact lg.2.2.1 rfl
      have lt := ww_lszlt h1 h2 h3 h4 lg.1 q1 ne lg.2.1 lg.2.2.2
      obtain ⟨j, j1, j2⟩ := h6.2.1 g lg.1 lg.2.1
      refine I j g ?_ j2 lg.1 c hc
      have cj : (a9 j).toNatClampNeg = g := by rw [j2, nI_clamp (by have := lg.1; omega)]
      rcases Nat.lt_or_ge j i with z | z
      · exact z
      · by_cases ji : j = i
        · rw [ji, q2] at j2
          exact absurd ((nI_eq (by omega) (by have := lg.1; omega)).mp j2).symm ne
        · have := h6.2.2.1 i j (by omega) j1
          rw [cq, cj] at this; omega
    · intro j g hj ej g6 c hc
      have st : ww_tab a7 a9 m a5 a8 n a6 a2 a10 (i + 1) = ww_tab1 a7 a9 m a5 a8 n a6 a2 a10 i (ww_tab a7 a9 m a5 a8 n a6 a2 a10 i) := by
        unfold ww_tab
        rw [ww_it_snoc, Nat.zero_add]
      rw [st]
      unfold ww_tab1
      rw [cq]
      show L (g * 6 + c) = (if g = q then _ else _ : Nat → Int32) c
      by_cases e : g = q
      · rw [if_pos e, e]; exact hL c hc
      · rw [if_neg e, ho _ (by omega)]
        have : j ≠ i := by
          intro z
          rw [z, q2] at ej
          exact e ((nI_eq (by omega) (by omega)).mp ej).symm
        exact I j g (by omega) ej g6 c hc
end
end
section
/-! the weights matter below 6 alone -/
theorem ww_it_cg {σ : Type} {f g : Nat → σ → σ} (e : Nat) (h : ∀ i s, i < e → f i s = g i s) (k i : Nat) (s : σ) (he : i + k = e) : ww_it f i k s = ww_it g i k s :=
  ww_rel (fun x y => x = y) f g e (fun i s t hi q => by rw [q]; exact h i t hi) k i s s he rfl
theorem ww_pass_w {lp hd : Nat → Int32} {m : Nat} {fw od : Nat → Int32} {n : Nat} {w w' : Nat → Int32} {TT : Nat → Nat → Int32} {part head : Int32} (h : ww_eq6 w w') (r : Nat → Int32) :
    ww_pass lp hd m fw od n w TT part head r = ww_pass lp hd m fw od n w' TT part head r := by
  refine ww_it_cg n (fun k r hk => ?_) n 0 r (by omega)
  unfold ww_pas2
  by_cases e : bt part (od k).toNatClampNeg = true ∧ ¬ r (od k).toNatClampNeg ≤ -1000000
  · rw [if_pos e, if_pos e]
    refine ww_it_cg 6 (fun b r hb => ?_) 6 0 r rfl
    unfold ww_pas1 ww_step ww_come
    rw [h b hb]
  · rw [if_neg e, if_neg e]
theorem ww_sumR_w {lp hd : Nat → Int32} {m : Nat} {fw od : Nat → Int32} {n : Nat} {w w' : Nat → Int32} {TT : Nat → Nat → Int32} {g : Nat} (hg : g < 6) (h : ww_eq6 w w') : ww_sumR lp hd m fw od n w TT g = ww_sumR lp hd m fw od n w' TT g := by
  unfold ww_sumR
  rw [ww_pass_w h, h g hg]
theorem ww_tab_w {lp hd : Nat → Int32} {m : Nat} {fw od : Nat → Int32} {n : Nat} {bk bd w w' : Nat → Int32} (hh : ∀ k, k < m → ∃ h, h < 6 ∧ hd k = nI h) (h : ww_eq6 w w') : ww_tab lp hd m fw od n bk bd w m = ww_tab lp hd m fw od n bk bd w' m := by
  refine ww_it_cg m (fun k TT hk => ?_) m 0 _ (by omega)
  obtain ⟨q, q6, eq⟩ := hh k hk
  unfold ww_tab1
  rw [eq, nI_clamp (by omega), ww_sumR_w q6 h]
theorem ww_W_w {lv : Int32} {lp hd : Nat → Int32} {m : Nat} {fw od : Nat → Int32} {n : Nat} {bk bd w w' : Nat → Int32} (hh : ∀ k, k < m → ∃ h, h < 6 ∧ hd k = nI h) (h : ww_eq6 w w') : ww_W lv lp hd m fw od n bk bd w = ww_W lv lp hd m fw od n bk bd w' := by
  unfold ww_W
  rw [ww_tab_w hh h, ww_pass_w h]
  unfold ww_come
  rw [h 0 (by omega)]
theorem ww_eq6_t {r s t : Nat → Int32} (h : ww_eq6 r s) (k : s = t) : ww_eq6 r t := by rw [← k]; exact h
def ww_ans (x : Int32) : Int32 := if x ≤ -1000000 then -1 else x
def ww_unit (b : Nat) : Nat → Int32 := fun c => if c = b then 1 else 0
def ww_uniF (b : Nat) (w : Nat → Int32) : Nat → Int32 := ww_it (fun c w => upd w c (if c = b then 1 else 0)) 0 6 w
theorem ww_uni_eq (b : Nat) (w : Nat → Int32) : ww_eq6 (ww_uniF b w) (ww_unit b) :=
  ww_ind (fun i (s : Nat → Int32) => ∀ c, c < i → s c = ww_unit b c) (fun c w => upd w c (if c = b then 1 else 0)) 6 (by
    intro i s hi h c hc
    show upd s i _ c = _
    by_cases e : c = i
    · rw [e, pk_us]; rfl
    · rw [pk_un e]; exact h c (by omega)) 6 0 w rfl (fun c hc => absurd hc (by omega))
/-! the answers, of a known state -/
theorem ww_w_isB {ps : Int32 → Prop} {b : Nat} (hb : b < 6) (H : ps 1) : wpX_isBlock ps () (nI b) := br_f (nI_pos (by omega)) (br_f (nI_ge hb (by decide)) H)
section
variable {ps : Int32 → St1 → Prop} {kn lv od hc : Int32} {a1 a2 a3 a4 a5 a6 a7 a8 a9 a10 a11 a12 : Nat → Int32}
theorem ww_w_liveK (hk : ¬ kn = 0) (H : ps lv (kn, lv, od, hc, a1, a2, a3, a4, a5, a6, a7, a8, a9, a10, a11, a12)) : wpX_live ps (kn, lv, od, hc, a1, a2, a3, a4, a5, a6, a7, a8, a9, a10, a11, a12) := ww_w_learn1 hk H
theorem ww_w_isreg {n : Nat} (hk : ¬ kn = 0) (hn : n ≤ 6) (H1 : n = ww_sz lv → ps 1 (kn, lv, nI n, hc, a1, a2, a3, a4, a5, a6, a7, a8, a9, a10, a11, a12)) (H0 : ¬ n = ww_sz lv → ps 0 (kn, lv, nI n, hc, a1, a2, a3, a4, a5, a6, a7, a8, a9, a10, a11, a12)) : wpX_isRegular ps (kn, lv, nI n, hc, a1, a2, a3, a4, a5, a6, a7, a8, a9, a10, a11, a12) := by
  have s6 : ww_sz lv ≤ 6 := ww_cn_le _ 6
  exact ww_w_learn1 hk (ww_w_size (br_c (fun e => H1 ((nI_eq (by omega) (by omega)).mp e)) (fun e => H0 (fun z => e (by rw [z])))))
theorem ww_w_reg {n : Nat} (hk : ¬ kn = 0) (hn : n ≤ 6) (H1 : n = ww_sz lv → ps 1 (kn, lv, nI n, hc, a1, a2, a3, a4, a5, a6, a7, a8, a9, a10, a11, a12)) (H0 : ¬ n = ww_sz lv → ps 0 (kn, lv, nI n, hc, a1, a2, a3, a4, a5, a6, a7, a8, a9, a10, a11, a12)) : wpX_regular ps (kn, lv, nI n, hc, a1, a2, a3, a4, a5, a6, a7, a8, a9, a10, a11, a12) := by
  unfold wpX_regular
  exact ww_w_isreg hk hn (fun e => ⟨rfl, H1 e⟩) (fun e => ⟨rfl, H0 e⟩)
theorem ww_w_dominators {b : Nat} (hk : ¬ kn = 0) (hb : b < 6) (H : ps (a4 b) (kn, lv, od, hc, a1, a2, a3, a4, a5, a6, a7, a8, a9, a10, a11, a12)) : wpX_dominators ps (kn, lv, od, hc, a1, a2, a3, a4, a5, a6, a7, a8, a9, a10, a11, a12) (nI b) := by
  unfold wpX_dominators
  have cl : (nI b).toNatClampNeg = b := nI_clamp (by omega)
  refine ww_w_isB hb (br_f (by decide) (ww_w_learn1 hk ⟨vp_in_nI hb (by decide), ?_⟩))
  rw [cl]; exact H
theorem ww_w_loop {b : Nat} (hk : ¬ kn = 0) (hb : b < 6) (H : ps (a7 b) (kn, lv, od, hc, a1, a2, a3, a4, a5, a6, a7, a8, a9, a10, a11, a12)) : wpX_loop ps (kn, lv, od, hc, a1, a2, a3, a4, a5, a6, a7, a8, a9, a10, a11, a12) (nI b) := by
  unfold wpX_loop
  have cl : (nI b).toNatClampNeg = b := nI_clamp (by omega)
  refine ww_w_isB hb (br_f (by decide) (ww_w_learn1 hk ⟨vp_in_nI hb (by decide), ?_⟩))
  rw [cl]; exact H
theorem ww_w_worst {n m b : Nat} (hk : ¬ kn = 0) (sh : ww_Sh lv n m a3 a4 a5 a6 a7 a8 a9) (rg : n = ww_sz lv) (hb : b < 6)
    (H : ∀ w L r, ps (ww_ans (ww_W lv a7 a9 m a5 a8 n a6 a2 a1 b)) (kn, lv, nI n, nI m, a1, a2, a3, a4, a5, a6, a7, a8, a9, w, L, r)) : wpX_worst ps (kn, lv, nI n, nI m, a1, a2, a3, a4, a5, a6, a7, a8, a9, a10, a11, a12) (nI b) := by
  unfold wpX_worst
  have cl : (nI b).toNatClampNeg = b := nI_clamp (by omega)
  have h5 := sh.2.2.2.2.2.2.1
  have h6 := sh.2.2.2.2.2.2.2
  have hh : ∀ k, k < m → ∃ h, h < 6 ∧ a9 k = nI h := fun k hk => by
    obtain ⟨b, b1, b2, _⟩ := h6.1 k hk
    exact ⟨b, b1, b2⟩
  refine ww_w_isB hb (br_f (by decide) (ww_w_isreg hk h5.2.2.2.1 (fun _ => br_f (by decide) (ww_w_use (ww_w_weigh sh (fun L r hr => ⟨vp_in_nI hb (by decide), ?_⟩)))) (fun z => absurd rg z)))
  have e := (ww_eq6_t hr (ww_W_w hh (ww_use_eq a1 a10))) b hb
  rw [cl, e]
  have H' := H (ww_useF a1 a10) L r
  unfold ww_ans at H'
  refine br_c (fun q => ?_) (fun q => ⟨vp_in_nI hb (by decide), ?_⟩)
  · rw [if_pos q] at H'; exact H'
  · rw [if_neg q] at H'; exact H'
theorem ww_w_worstAll {n m : Nat} (hk : ¬ kn = 0) (sh : ww_Sh lv n m a3 a4 a5 a6 a7 a8 a9) (rg : n = ww_sz lv)
    (H : ∀ w L r, ps (ww_gr (ww_W lv a7 a9 m a5 a8 n a6 a2 a1)) (kn, lv, nI n, nI m, a1, a2, a3, a4, a5, a6, a7, a8, a9, w, L, r)) : wpX_worstOfAll ps (kn, lv, nI n, nI m, a1, a2, a3, a4, a5, a6, a7, a8, a9, a10, a11, a12) := by
  unfold wpX_worstOfAll
  have h5 := sh.2.2.2.2.2.2.1
  have h6 := sh.2.2.2.2.2.2.2
  have hh : ∀ k, k < m → ∃ h, h < 6 ∧ a9 k = nI h := fun k hk => by
    obtain ⟨b, b1, b2, _⟩ := h6.1 k hk
    exact ⟨b, b1, b2⟩
  refine ww_w_isreg hk h5.2.2.2.1 (fun _ => br_f (by decide) (ww_w_use (ww_w_weigh sh (fun L r hr => ww_w_great ?_)))) (fun z => absurd rg z)
  rw [ww_gr_cg (ww_eq6_t hr (ww_W_w hh (ww_use_eq a1 a10)))]
  exact H _ L r
theorem ww_w_vis53 {n m b : Nat} (hb : b < 6) (sh : ww_Sh lv n m a3 a4 a5 a6 a7 a8 a9)
    (H : ∀ w L r, ps (ww_gr (ww_W lv a7 a9 m a5 a8 n a6 a2 (ww_unit b))) (kn, lv, nI n, nI m, a1, a2, a3, a4, a5, a6, a7, a8, a9, w, L, r)) : ∃ f, wX_visits_53 ps (nI b) kn lv (nI n) (nI m) f 0 a1 a2 a3 a4 a5 a6 a7 a8 a9 a10 a11 a12 := by
  have h6 := sh.2.2.2.2.2.2.2
  have hh : ∀ k, k < m → ∃ h, h < 6 ∧ a9 k = nI h := fun k hk => by
    obtain ⟨b, b1, b2, _⟩ := h6.1 k hk
    exact ⟨b, b1, b2⟩
  refine ww_lop (fun f i s => wX_visits_53 ps (nI b) kn lv (nI n) (nI m) f (nI i) a1 a2 a3 a4 a5 a6 a7 a8 a9 s a11 a12) (fun c w => upd w c (if c = b then 1 else 0)) 6 (fun s => s = ww_uniF b a10) ?_ ?_ 6 0 a10 rfl rfl
  · intro f s q
    rw [q]
    refine br_t ww_6 (ww_w_weigh sh (fun L r hr => ww_w_great ?_))
    rw [ww_gr_cg (ww_eq6_t hr (ww_W_w hh (ww_uni_eq b a10)))]
    exact H _ L r
  · intro f i s hi hw
    have cl : (nI i).toNatClampNeg = i := nI_clamp (by omega)
    have hw' : wX_visits_53 ps (nI b) kn lv (nI n) (nI m) f (nI (i + 1)) a1 a2 a3 a4 a5 a6 a7 a8 a9 (upd s i (if i = b then 1 else 0)) a11 a12 := hw
    refine br_f (nI_ge hi (by decide)) ?_
    rw [cl]
    refine br_c (fun e => ⟨vp_in_nI hi (by decide), nm_e (nm_r (nI_1 i) ?_)⟩) (fun e => ⟨vp_in_nI hi (by decide), nm_e (nm_r (nI_1 i) ?_)⟩)
    · rw [if_pos ((nI_eq (by omega) (by omega)).mp e)] at hw'; exact hw'
    · rw [if_neg (fun z => e (by rw [z]))] at hw'; exact hw'
theorem ww_w_visits {n m b : Nat} (hk : ¬ kn = 0) (sh : ww_Sh lv n m a3 a4 a5 a6 a7 a8 a9) (rg : n = ww_sz lv) (hb : b < 6) (H0 : bt lv b = false → ps 0 (kn, lv, nI n, nI m, a1, a2, a3, a4, a5, a6, a7, a8, a9, a10, a11, a12))
    (H1 : bt lv b = true → ∀ w L r, ps (ww_gr (ww_W lv a7 a9 m a5 a8 n a6 a2 (ww_unit b))) (kn, lv, nI n, nI m, a1, a2, a3, a4, a5, a6, a7, a8, a9, w, L, r)) : wpX_visits ps (kn, lv, nI n, nI m, a1, a2, a3, a4, a5, a6, a7, a8, a9, a10, a11, a12) (nI b) := by
  unfold wpX_visits
  have h5 := sh.2.2.2.2.2.2.1
  exact ww_w_isreg hk h5.2.2.2.1 (fun _ => br_f (by decide) (ww_w_isB hb (br_f (by decide) (ww_in hb (fun e => H0 e) (fun e => ww_w_vis53 hb sh (H1 e)))))) (fun z => absurd rg z)
theorem ww_w_lea81 {J : Int32 → (Nat → Int32) → (Nat → Int32) → (Nat → Int32) → (Nat → Int32) → (Nat → Int32) → (Nat → Int32) → (Nat → Int32) → (Nat → Int32) → (Nat → Int32) → (Nat → Int32) → (Nat → Int32) → (Nat → Int32) → Prop} {a b k : Nat} (ha : a < 6)
    (H : J (nI (k + 1)) a1 a2 a3 a4 a5 a6 a7 a8 a9 a10 a11 (ww_it (ww_lea1 a5 a1 a) 0 6 a12)) : ∃ f, wX_least_81 ps J (nI b) (nI k) (nI a) kn lv od hc f 0 a1 a2 a3 a4 a5 a6 a7 a8 a9 a10 a11 a12 := by
  refine ww_lop (fun f i s => wX_least_81 ps J (nI b) (nI k) (nI a) kn lv od hc f (nI i) a1 a2 a3 a4 a5 a6 a7 a8 a9 a10 a11 s) (ww_lea1 a5 a1 a) 6 (fun s => J (nI (k + 1)) a1 a2 a3 a4 a5 a6 a7 a8 a9 a10 a11 s) ?_ ?_ 6 0 a12 rfl H
  · intro f s q
    exact br_t ww_6 (nm_r (nI_1 k) q)
  · intro f i s hi hw
    have cl : (nI i).toNatClampNeg = i := nI_clamp (by omega)
    have ca : (nI a).toNatClampNeg = a := nI_clamp (by omega)
    refine br_f (nI_ge hi (by decide)) ⟨vp_in_nI ha (by decide), ?_⟩
    rw [cl, ca]
    refine ww_in hi (fun e => nm_r (nI_1 i) ?_) (fun e => ⟨vp_in_nI ha (by decide), vp_in_nI hi (by decide), vp_in_nI hi (by decide), br_c (fun e2 => nm_r (nI_1 i) ?_) (fun e2 => ⟨vp_in_nI ha (by decide), vp_in_nI hi (by decide), vp_in_nI hi (by decide), nm_e (nm_r (nI_1 i) ?_)⟩)⟩)
    · rw [show ww_lea1 a5 a1 a i s = s from if_neg (fun z => ww_ft e z.1)] at hw; exact hw
    · rw [show ww_lea1 a5 a1 a i s = s from if_neg (fun z => z.2 e2)] at hw; exact hw
    · rw [show ww_lea1 a5 a1 a i s = _ from if_pos ⟨e, e2⟩] at hw; exact hw
theorem ww_w_lea63 {n b : Nat} (hb : b < 6) (hn : n ≤ 6) (ho : ∀ k, k < n → ∃ a, a < 6 ∧ a8 k = nI a)
    (H : ps (ww_it (ww_lea2 a5 a8 a1) 0 n a12 b) (kn, lv, nI n, hc, a1, a2, a3, a4, a5, a6, a7, a8, a9, a10, a11, ww_it (ww_lea2 a5 a8 a1) 0 n a12)) : ∃ f, wX_least_63 ps (nI b) kn lv (nI n) hc f 0 a1 a2 a3 a4 a5 a6 a7 a8 a9 a10 a11 a12 := by
  have cb : (nI b).toNatClampNeg = b := nI_clamp (by omega)
  refine ww_lop (fun f i s => wX_least_63 ps (nI b) kn lv (nI n) hc f (nI i) a1 a2 a3 a4 a5 a6 a7 a8 a9 a10 a11 s) (ww_lea2 a5 a8 a1) n (fun s => ps (s b) (kn, lv, nI n, hc, a1, a2, a3, a4, a5, a6, a7, a8, a9, a10, a11, s)) ?_ ?_ n 0 a12 (by omega) H
  · intro f s q
    refine br_t (nI_le (Nat.le_refl n) (by omega)) ⟨vp_in_nI hb (by decide), ?_⟩
    rw [cb]; exact q
  · intro f i s hi hw
    have cl : (nI i).toNatClampNeg = i := nI_clamp (by omega)
    obtain ⟨a, a6, ea⟩ := ho i hi
    unfold ww_lea2 at hw
    rw [ea, nI_clamp (by omega)] at hw
    refine br_f (nI_ge hi (by omega)) ⟨vp_in_nI (show i < 6 by omega) (by decide), ?_⟩
    rw [cl]
    exact nm_r ea (ww_w_lea81 a6 hw)
theorem ww_w_least {n b : Nat} (hk : ¬ kn = 0) (rg : n = ww_sz lv) (hb : b < 6) (hn : n ≤ 6) (ho : ∀ k, k < n → ∃ a, a < 6 ∧ a8 k = nI a) (H0 : bt lv b = false → ps (-1) (kn, lv, nI n, hc, a1, a2, a3, a4, a5, a6, a7, a8, a9, a10, a11, a12))
    (H1 : bt lv b = true → ∀ r, ps (ww_leaF a5 a8 n a1 a12 b) (kn, lv, nI n, hc, a1, a2, a3, a4, a5, a6, a7, a8, a9, a10, a11, r)) : wpX_least ps (kn, lv, nI n, hc, a1, a2, a3, a4, a5, a6, a7, a8, a9, a10, a11, a12) (nI b) := by
  unfold wpX_least
  refine ww_w_isB hb (br_f (by decide) (ww_w_isreg hk hn (fun _ => br_f (by decide) (ww_in hb (fun e => H0 e) (fun e => ?_))) (fun z => absurd rg z)))
  refine ww_lop (fun f i s => wX_least_29 ps (nI b) kn lv (nI n) hc f (nI i) a1 a2 a3 a4 a5 a6 a7 a8 a9 a10 a11 s) (fun c r => upd r c 1000000) 6 (fun s => s = ww_it (fun c r => upd r c 1000000) 0 6 a12) ?_ ?_ 6 0 a12 rfl rfl
  · intro f s q
    rw [q]
    exact br_t ww_6 (nm_e (ww_w_lea63 hb hn ho (H1 e _)))
  · intro f i s hi hw
    have cl : (nI i).toNatClampNeg = i := nI_clamp (by omega)
    refine br_f (nI_ge hi (by decide)) ⟨vp_in_nI hi (by decide), ?_⟩
    rw [cl]
    exact nm_e (nm_r (nI_1 i) hw)
end
end
section
/-! the law's own methods: block, nested -/
section
variable {ps : Int32 → St1 → Prop} {kn lv od hc : Int32} {a1 a2 a3 a4 a5 a6 a7 a8 a9 a10 a11 a12 : Nat → Int32}
theorem ww_w_block92 {n m b : Nat} (hk : ¬ kn = 0) (sh : ww_Sh lv n m a3 a4 a5 a6 a7 a8 a9) (hb : b < 6) (hl : bt lv b = true) (H : ps 1 (kn, lv, od, hc, a1, a2, a3, a4, a5, a6, a7, a8, a9, a10, a11, a12)) : ∃ f, wL_block_92 ps (nI b) (a4 b) (a7 b) f 1 0 kn lv od hc a1 a2 a3 a4 a5 a6 a7 a8 a9 a10 a11 a12 := by
  obtain ⟨_, _, h1, h2, h3, h4, h5, h6⟩ := sh
  refine ww_lop (σ := Unit) (fun f i _ => wL_block_92 ps (nI b) (a4 b) (a7 b) f 1 (nI i) kn lv od hc a1 a2 a3 a4 a5 a6 a7 a8 a9 a10 a11 a12) (fun _ s => s) 6 (fun _ => True) ?_ ?_ 6 0 () rfl trivial
  · intro f _ _
    exact br_t ww_6 ⟨rfl, H⟩
  · intro f i _ hi hw
    have g161 : ∀ z : Int32, (z = 0 ∨ bt (a4 i) b = true) → wL_block_161 ps (wL_block_92 ps (nI b) (a4 b) (a7 b) f) (nI b) (a4 b) (a7 b) (nI i) (a4 i) z kn lv od hc a1 a2 a3 a4 a5 a6 a7 a8 a9 a10 a11 a12 := by
      intro z q
      unfold wL_block_161
      refine br_c (fun _ => nm_r (nI_1 i) hw) (fun e => br_t ((ww_bit1 _ hb).mpr ?_) (nm_r (nI_1 i) hw))
      rcases q with q | q
      · exact absurd q e
      · exact q
    have g140 : ∀ y z : Int32, (y = 0 ∨ (a4 i &&& (a4 b ^^^ (-1))) = 0) → (z = 0 ∨ bt (a4 i) b = true) → wL_block_140 ps (wL_block_92 ps (nI b) (a4 b) (a7 b) f) (nI b) (a4 b) (a7 b) 1 (nI i) (a4 i) y z kn lv od hc a1 a2 a3 a4 a5 a6 a7 a8 a9 a10 a11 a12 := by
      intro y z q1 q2
      unfold wL_block_140
      refine br_f (by decide) (br_c (fun _ => g161 z q2) (fun e => br_t ?_ (g161 z q2)))
      rcases q1 with q | q
      · exact absurd q e
      · exact q
    have g122 : ∀ y : Int32, (y = 0 ∨ (a4 i &&& (a4 b ^^^ (-1))) = 0) → wL_block_122 ps (wL_block_92 ps (nI b) (a4 b) (a7 b) f) (nI b) (a4 b) (a7 b) 1 (nI i) (a4 i) y kn lv od hc a1 a2 a3 a4 a5 a6 a7 a8 a9 a10 a11 a12 := by
      intro y q
      unfold wL_block_122
      exact br_c (fun e => g140 y 1 q (Or.inr (ww_ldm h1 h2 h3 h4 hb ((ww_bit1 _ hi).mp e)).2)) (fun e => g140 y 0 q (Or.inl rfl))
    exact br_f (nI_ge hi (by decide)) (ww_w_dominators hk hi (br_c (fun e => g122 1 (Or.inr ((ww_sub (h2.1 i hi)).mpr (fun v hv => ww_dtr h1 h2 hl ((ww_bit1 _ hi).mp e) hv)))) (fun e => g122 0 (Or.inl rfl))))
theorem ww_w_block {n m b : Nat} (hk : ¬ kn = 0) (sh : ww_Sh lv n m a3 a4 a5 a6 a7 a8 a9) (hb : b < 6) (H : ps 1 (kn, lv, od, hc, a1, a2, a3, a4, a5, a6, a7, a8, a9, a10, a11, a12)) : wpL_block ps (kn, lv, od, hc, a1, a2, a3, a4, a5, a6, a7, a8, a9, a10, a11, a12) (nI b) lv := by
  have hs := sh
  obtain ⟨_, _, h1, h2, h3, h4, h5, h6⟩ := sh
  unfold wpL_block
  refine ww_w_dominators hk hb (ww_w_loop hk hb (br_c (fun e => ?_) (fun e => ?_)))
  · have hl := (ww_bit1 _ hb).mp e
    unfold wL_block_27
    refine br_f (by decide) (br_t ((ww_bit1 _ hb).mpr (h2.2.2.2.2.1 b hl).1) (br_t ?_ (br_t ?_ (br_t ?_ (ww_w_block92 hk hs hb hl H)))))
    · rw [ww_and1, (h2.2.2.2.2.1 b hl).2]; rfl
    · exact (ww_sub (h2.1 b hb)).mpr (fun u hu => h2.2.2.2.1 b u hb hu)
    · exact (ww_sub (h4.1 b hb)).mpr (fun u hu => (ww_ldm h1 h2 h3 h4 hb hu).1)
  · have hl : bt lv b = false := by
      cases q : bt lv b
      · rfl
      · exact absurd ((ww_bit1 _ hb).mpr q) e
    unfold wL_block_27
    refine br_t rfl (br_t (h2.2.1 b hb hl) (br_t ?_ H))
    by_cases z : a7 b = 0
    · exact z
    · rw [(ww_ldm h1 h2 h3 h4 hb (ww_lnz h4 hb z)).1] at hl; exact absurd hl (by decide)
theorem ww_nest3 {n m g h : Nat} (sh : ww_Sh lv n m a3 a4 a5 a6 a7 a8 a9) (hg : g < 6) (hh : h < 6) : (a7 g &&& a7 h) = 0 ∨ (a7 g &&& a7 h) = a7 g ∨ (a7 g &&& a7 h) = a7 h := by
  obtain ⟨_, _, h1, h2, h3, h4, h5, h6⟩ := sh
  have sg := h4.1 g hg
  have sm : ww_sm (a7 g &&& a7 h) := ww_sm_and sg
  by_cases z : (a7 g &&& a7 h) = 0
  · exact Or.inl z
  · obtain ⟨u, _, e⟩ := ww_nz sm z
    rw [b_and, Bool.and_eq_true] at e
    refine Or.inr ?_
    rcases ww_lnest h1 h2 h3 h4 hg hh e.1 e.2 with d | d
    · refine Or.inr (ww_ext sm (h4.1 h hh) (fun i _ => ?_))
      rw [b_and]
      cases q : bt (a7 h) i
      · simp
      · rw [d i q]; rfl
    · refine Or.inl (ww_ext sm sg (fun i _ => ?_))
      rw [b_and]
      cases q : bt (a7 g) i
      · simp
      · rw [d i q]; rfl
theorem ww_w_nest16 {J : Int32 → Int32 → Int32 → Int32 → Int32 → (Nat → Int32) → (Nat → Int32) → (Nat → Int32) → (Nat → Int32) → (Nat → Int32) → (Nat → Int32) → (Nat → Int32) → (Nat → Int32) → (Nat → Int32) → (Nat → Int32) → (Nat → Int32) → (Nat → Int32) → Prop} {n m g : Nat} (hk : ¬ kn = 0) (sh : ww_Sh lv n m a3 a4 a5 a6 a7 a8 a9) (hg : g < 6)
    (H : J (nI (g + 1)) kn lv od hc a1 a2 a3 a4 a5 a6 a7 a8 a9 a10 a11 a12) : ∃ f, wL_nested_16 ps J (nI g) (a7 g) f 0 kn lv od hc a1 a2 a3 a4 a5 a6 a7 a8 a9 a10 a11 a12 := by
  refine ww_lop (σ := Unit) (fun f i _ => wL_nested_16 ps J (nI g) (a7 g) f (nI i) kn lv od hc a1 a2 a3 a4 a5 a6 a7 a8 a9 a10 a11 a12) (fun _ s => s) g (fun _ => True) ?_ ?_ g 0 () (by omega) trivial
  · intro f _ _
    exact br_t (nI_le (Nat.le_refl g) (by omega)) (nm_r (nI_1 g) H)
  · intro f i _ hi hw
    refine br_f (nI_ge hi (by omega)) (ww_w_loop hk (show i < 6 by omega) (nm_e (br_c (fun _ => nm_r (nI_1 i) hw) (fun e1 => br_c (fun _ => nm_r (nI_1 i) hw) (fun e2 => br_t ?_ (nm_r (nI_1 i) hw))))))
    rcases ww_nest3 sh hg (show i < 6 by omega) with q | q | q
    · exact absurd q e1
    · exact absurd q e2
    · exact q
theorem ww_w_nested {n m : Nat} (hk : ¬ kn = 0) (sh : ww_Sh lv n m a3 a4 a5 a6 a7 a8 a9) (H : ps 1 (kn, lv, od, hc, a1, a2, a3, a4, a5, a6, a7, a8, a9, a10, a11, a12)) : wpL_nested ps (kn, lv, od, hc, a1, a2, a3, a4, a5, a6, a7, a8, a9, a10, a11, a12) := by
  refine ww_lop (σ := Unit) (fun f i _ => wL_nested_2 ps f (nI i) kn lv od hc a1 a2 a3 a4 a5 a6 a7 a8 a9 a10 a11 a12) (fun _ s => s) 6 (fun _ => True) ?_ ?_ 6 0 () rfl trivial
  · intro f _ _
    exact br_t ww_6 H
  · intro f i _ hi hw
    exact br_f (nI_ge hi (by decide)) (ww_w_loop hk hi (ww_w_nest16 hk sh hi hw))
end
end
section
/-! the law's walks -/
theorem ww_gr_spec (r : Nat → Int32) : (∀ c, c < 6 → (r c).toInt ≤ (ww_gr r).toInt) ∧ 0 ≤ (ww_gr r).toInt ∧ ∀ M : Int, 0 ≤ M → (∀ c, c < 6 → (r c).toInt ≤ M) → (ww_gr r).toInt ≤ M := by
  have h := ww_ind (fun i (x : Int32) => (∀ c, c < i → (r c).toInt ≤ x.toInt) ∧ 0 ≤ x.toInt ∧ ∀ M : Int, 0 ≤ M → (∀ c, c < 6 → (r c).toInt ≤ M) → x.toInt ≤ M) (fun b x => if r b ≤ x then x else r b) 6 (by
    intro i x hi ⟨k1, k2, k3⟩
    show (∀ c, c < i + 1 → (r c).toInt ≤ (if r i ≤ x then x else r i).toInt) ∧ _
    by_cases e : r i ≤ x
    · rw [if_pos e]
      refine ⟨fun c hc => ?_, ?_, ?_⟩
      · by_cases q : c = i
        · rw [q]; exact Int32.le_iff_toInt_le.mp e
        · exact k1 c (by omega)
      · exact k2
      · intro M hM hr
        exact k3 M hM hr
    · rw [if_neg e]
      have e' := e
      rw [Int32.le_iff_toInt_le] at e'
      refine ⟨fun c hc => ?_, ?_, ?_⟩
      · by_cases q : c = i
        · rw [q]; exact Int.le_refl _
        · have := k1 c (by omega); omega
      · omega
      · intro M hM hr
        exact hr i hi) 6 0 0 rfl ⟨fun c hc => absurd hc (by omega), by decide, fun M hM _ => by rw [ww_z0]; exact hM⟩
  exact h
def ww_mx (W : Nat → Int32) (k : Nat) : Int32 := ww_it (fun b x => if ww_ans (W b) ≤ x then x else ww_ans (W b)) 0 k (-1)
theorem ww_mx_s (W : Nat → Int32) (k : Nat) : ww_mx W (k + 1) = if ww_ans (W k) ≤ ww_mx W k then ww_mx W k else ww_ans (W k) := by
  unfold ww_mx
  rw [ww_it_snoc, Nat.zero_add]
theorem ww_ans_pos {x : Int32} (h : 0 ≤ x.toInt) : ww_ans x = x := if_neg (ww_nfar h)
theorem ww_mx_gr {W : Nat → Int32} (h0 : 0 ≤ (W 0).toInt) (h : ∀ c, c < 6 → W c = -1000000 ∨ 0 ≤ (W c).toInt) : ww_gr W = ww_mx W 6 := by
  have e0 : (if W 0 ≤ 0 then 0 else W 0) = W 0 := by
    by_cases e : W 0 ≤ 0
    · rw [if_pos e]
      rw [Int32.le_iff_toInt_le, ww_z0] at e
      exact Int32.toInt_inj.mp (by rw [ww_z0]; omega)
    · rw [if_neg e]
  have e1 : (if ww_ans (W 0) ≤ -1 then -1 else ww_ans (W 0)) = W 0 := by
    rw [ww_ans_pos h0, if_neg]
    rw [Int32.le_iff_toInt_le, show (-1 : Int32).toInt = -1 by decide]
    omega
  have l : ww_gr W = ww_it (fun b x => if W b ≤ x then x else W b) 1 5 (W 0) := by
    show ww_it (fun b x => if W b ≤ x then x else W b) 1 5 (if W 0 ≤ 0 then 0 else W 0) = _
    rw [e0]
  have r : ww_mx W 6 = ww_it (fun b x => if ww_ans (W b) ≤ x then x else ww_ans (W b)) 1 5 (W 0) := by
    show ww_it (fun b x => if ww_ans (W b) ≤ x then x else ww_ans (W b)) 1 5 (if ww_ans (W 0) ≤ -1 then -1 else ww_ans (W 0)) = _
    rw [e1]
  rw [l, r]
  refine (ww_rel (fun x y : Int32 => x = y ∧ 0 ≤ x.toInt) _ _ 6 ?_ 5 1 (W 0) (W 0) rfl ⟨rfl, h0⟩).1
  intro i x y hi ⟨e, hx⟩
  show (if W i ≤ x then x else W i) = (if ww_ans (W i) ≤ y then y else ww_ans (W i)) ∧ 0 ≤ (if W i ≤ x then x else W i).toInt
  rw [← e]
  rcases h i hi with q | q
  · have a1 : W i ≤ x := by rw [q, Int32.le_iff_toInt_le, ww_far]; omega
    have a2 : ww_ans (W i) ≤ x := by
      rw [q, show ww_ans (-1000000) = -1 from if_pos (by decide), Int32.le_iff_toInt_le, show (-1 : Int32).toInt = -1 by decide]; omega
    rw [if_pos a1, if_pos a2]; exact ⟨rfl, hx⟩
  · rw [ww_ans_pos q]
    refine ⟨rfl, ?_⟩
    by_cases z : W i ≤ x
    · rw [if_pos z]; exact hx
    · rw [if_neg z]; exact q
def ww_ins (lp : Nat → Int32) : Int32 := ww_it (fun h x => x ||| lp h) 0 6 0
theorem ww_ins_bit {lp : Nat → Int32} {z : Nat} (h : bt (ww_ins lp) z = false) : ∀ g, g < 6 → bt (lp g) z = false := by
  have := ww_ind (fun i (x : Int32) => ∀ g, g < i → bt (lp g) z = true → bt x z = true) (fun h x => x ||| lp h) 6 (by
    intro i x hi k g hg e
    show bt (x ||| lp i) z = true
    rw [b_or]
    by_cases q : g = i
    · rw [q] at e; rw [e]; simp
    · rw [k g (by omega) e]; rfl) 6 0 0 rfl (fun g hg => absurd hg (by omega))
  intro g hg
  cases e : bt (lp g) z
  · rfl
  · have q : bt (ww_ins lp) z = true := this g hg e
    rw [h] at q; exact q.symm
theorem ww_unit_w (b : Nat) : ∀ c, 0 ≤ (ww_unit b c).toInt ∧ (ww_unit b c).toInt ≤ 50 := by
  intro c
  unfold ww_unit
  by_cases e : c = b
  · rw [if_pos e]; decide
  · rw [if_neg e]; decide
/-- a live block is passed at least once -/
theorem ww_vis_pos {lv : Int32} {n m : Nat} {nx dm fw bk lp od hd bd : Nat → Int32} (sh : ww_Sh lv n m nx dm fw bk lp od hd) (rg : n = ww_sz lv) (hb : ∀ h, h < 6 → ∃ k, 1 ≤ k ∧ k ≤ 3 ∧ bd h = nI k) {z : Nat} (hz : bt lv z = true) :
    1 ≤ (ww_gr (ww_W lv lp hd m fw od n bk bd (ww_unit z))).toInt := by
  have w := ww_worst_ok sh rg (w := ww_unit z) (bd := bd) (fun c _ => ww_unit_w z c) hb (l := fun c => (ww_unit z c).toInt) (fun a c _ _ => by
    have := (ww_unit_w z a).1
    show (ww_unit z c).toInt ≤ (ww_unit z a).toInt + (ww_unit z c).toInt
    omega) (Int.le_refl _)
  have w2 : (ww_unit z z).toInt ≤ (ww_W lv lp hd m fw od n bk bd (ww_unit z) z).toInt := (w.2 z hz).2
  have e : (ww_unit z z).toInt = 1 := by unfold ww_unit; rw [if_pos rfl]; decide
  have := (ww_gr_spec (ww_W lv lp hd m fw od n bk bd (ww_unit z))).1 z (ww_sm_lt sh.2.2.1.1 hz)
  omega
theorem ww_vis_one {lv : Int32} {n m : Nat} {nx dm fw bk lp od hd bd : Nat → Int32} (sh : ww_Sh lv n m nx dm fw bk lp od hd) (rg : n = ww_sz lv) (hb : ∀ h, h < 6 → ∃ k, 1 ≤ k ∧ k ≤ 3 ∧ bd h = nI k) {z : Nat} (hz : bt lv z = true) (ho : bt (ww_ins lp) z = false) :
    ww_gr (ww_W lv lp hd m fw od n bk bd (ww_unit z)) = 1 := by
  have lo := ww_vis_pos sh rg hb hz
  have hi := (ww_gr_spec (ww_W lv lp hd m fw od n bk bd (ww_unit z))).2.2 1 (by decide) (ww_visit_ok sh rg hz (ww_ins_bit ho) (fun c _ => rfl) hb)
  exact Int32.toInt_inj.mp (by rw [show (1 : Int32).toInt = 1 by decide]; omega)
section
variable {ps : Int32 → St1 → Prop} {kn lv od hc : Int32} {a1 a2 a3 a4 a5 a6 a7 a8 a9 a10 a11 a12 : Nat → Int32}
theorem ww_w_walks32 {n m : Nat} (hk : ¬ kn = 0) (sh : ww_Sh lv n m a3 a4 a5 a6 a7 a8 a9) (rg : n = ww_sz lv) (hc1 : ∀ c, c < 6 → 0 ≤ (a1 c).toInt ∧ (a1 c).toInt ≤ 50) (hb2 : ∀ h, h < 6 → ∃ k, 1 ≤ k ∧ k ≤ 3 ∧ a2 h = nI k)
    (H : ∀ w L r, ps 1 (kn, lv, nI n, nI m, a1, a2, a3, a4, a5, a6, a7, a8, a9, w, L, r)) : ∃ f, wL_walks_32 ps lv (ww_ins a7) f (-1) 0 kn lv (nI n) (nI m) a1 a2 a3 a4 a5 a6 a7 a8 a9 a10 a11 a12 := by
  have h1 := sh.2.2.1
  have h5 := sh.2.2.2.2.2.2.1
  have n6 := h5.2.2.2.1
  have ho : ∀ k, k < n → ∃ a, a < 6 ∧ a8 k = nI a := fun k hk => by
    obtain ⟨b, b1, b2, _⟩ := h5.1 k hk
    exact ⟨b, b1, b2⟩
  have wok : ∀ r : Nat → Int32, _ := fun r => ww_worst_ok sh rg (bk := a6) (bd := a2) hc1 hb2 (l := fun c => (ww_leaF a5 a8 n a1 r c).toInt) (fun a c ha hf => (ww_least_ok sh rg hc1 r).2.2 a c ha hf) (ww_least_ok sh rg hc1 r).2.1
  refine pk_loop (fun f i (s : Int32 × (Nat → Int32) × (Nat → Int32) × (Nat → Int32)) => wL_walks_32 ps lv (ww_ins a7) f s.1 (nI i) kn lv (nI n) (nI m) a1 a2 a3 a4 a5 a6 a7 a8 a9 s.2.1 s.2.2.1 s.2.2.2)
    (fun i s => s.1 = ww_mx (ww_W lv a7 a9 m a5 a8 n a6 a2 a1) i) 6 0 (-1, a10, a11, a12) (by omega) rfl ?_ ?_
  · intro f s I
    have W0 := ((wok a12).2 0 h1.2.1).1
    have WA : ∀ c, c < 6 → ww_W lv a7 a9 m a5 a8 n a6 a2 a1 c = -1000000 ∨ 0 ≤ (ww_W lv a7 a9 m a5 a8 n a6 a2 a1 c).toInt := by
      intro c hc
      cases e : bt lv c
      · exact Or.inl ((wok a12).1 c hc e)
      · exact Or.inr ((wok a12).2 c e).1
    have eq := ww_mx_gr W0 WA
    refine br_t ww_6 (ww_w_worstAll hk sh rg (fun w L r => br_t (by rw [I]; exact eq) (ww_w_visits (b := 0) hk sh rg (by omega) (fun z => ?_) (fun _ w L r => br_f ?_ (H w L r)))))
    · rw [h1.2.1] at z; exact absurd z (by decide)
    · have := ww_vis_pos sh rg (bk := a6) (bd := a2) hb2 h1.2.1
      rw [Int32.lt_iff_toInt_lt, show (1 : Int32).toInt = 1 by decide]
      omega
  · intro f i s hi I next
    have w128 : ∀ (z x7 : Int32) (w L r : Nat → Int32), z = ww_mx (ww_W lv a7 a9 m a5 a8 n a6 a2 a1) (i + 1) → (x7 = 0 ∨ bt lv i = true) → wL_walks_128 ps (wL_walks_32 ps lv (ww_ins a7) f) lv z (ww_ins a7) (nI i) x7 kn lv (nI n) (nI m) a1 a2 a3 a4 a5 a6 a7 a8 a9 w L r := by
      intro z x7 w L r ez q
      unfold wL_walks_128
      refine br_c (fun _ => nm_r (nI_1 i) (next (z, w, L, r) ez)) (fun e => br_c (fun e2 => ?_) (fun _ => nm_r (nI_1 i) (next (z, w, L, r) ez)))
      have hl : bt lv i = true := by
        rcases q with q | q
        · exact absurd q e
        · exact q
      have e3 := (ww_bit0 _ hi).mp e2
      exact ww_w_visits hk sh rg hi (fun z => absurd hl (ww_ft z)) (fun _ w L r => br_t (ww_vis_one sh rg hb2 hl e3) (nm_r (nI_1 i) (next (z, w, L, r) ez)))
    have w84 : ∀ (z x5 x6 x7 : Int32) (w L r : Nat → Int32), z = ww_mx (ww_W lv a7 a9 m a5 a8 n a6 a2 a1) (i + 1) → ((bt lv i = true ∧ x7 = 1 ∧ 0 ≤ x6.toInt ∧ x6.toInt ≤ x5.toInt) ∨ (bt lv i = false ∧ x7 = 0 ∧ x5 = -1 ∧ x6 = -1)) →
        wL_walks_84 ps (wL_walks_32 ps lv (ww_ins a7) f) lv (ww_ins a7) (nI i) x5 x6 x7 z kn lv (nI n) (nI m) a1 a2 a3 a4 a5 a6 a7 a8 a9 w L r := by
      intro z x5 x6 x7 w L r ez q
      unfold wL_walks_84
      rcases q with ⟨q1, q2, q3, q4⟩ | ⟨q1, q2, q3, q4⟩
      · rw [q2]
        refine br_f (by decide) (br_f ?_ (br_t ?_ (w128 z 1 w L r ez (Or.inr q1))))
        · rw [Int32.lt_iff_toInt_lt, ww_z0]; omega
        · exact Int32.le_iff_toInt_le.mpr q4
      · rw [q2]
        exact br_t rfl (br_t q3 (br_t q4 (ww_w_visits hk sh rg hi (fun _ => br_t rfl (w128 z 0 w L r ez (Or.inl rfl))) (fun z => absurd z (ww_ft q1)))))
    have w70 : ∀ (x5 x6 x7 : Int32) (w L r : Nat → Int32), x5 = ww_ans (ww_W lv a7 a9 m a5 a8 n a6 a2 a1 i) → ((bt lv i = true ∧ x7 = 1 ∧ 0 ≤ x6.toInt ∧ x6.toInt ≤ x5.toInt) ∨ (bt lv i = false ∧ x7 = 0 ∧ x5 = -1 ∧ x6 = -1)) →
        wL_walks_70 ps (wL_walks_32 ps lv (ww_ins a7) f) lv s.1 (ww_ins a7) (nI i) x5 x6 x7 kn lv (nI n) (nI m) a1 a2 a3 a4 a5 a6 a7 a8 a9 w L r := by
      intro x5 x6 x7 w L r e5 q
      unfold wL_walks_70
      refine br_c (fun e => w84 _ x5 x6 x7 w L r ?_ q) (fun e => w84 _ x5 x6 x7 w L r ?_ q)
      · rw [ww_mx_s, ← e5, ← I, if_pos e]
      · rw [ww_mx_s, ← e5, ← I, if_neg e]
    refine br_f (nI_ge hi (by decide)) (ww_w_worst hk sh rg hi (fun w L r => ww_w_least hk rg hi n6 ho (fun e => ?_) (fun e r2 => ?_)))
    · have ew : ww_ans (ww_W lv a7 a9 m a5 a8 n a6 a2 a1 i) = -1 := by rw [(wok r).1 i hi e]; exact if_pos (by decide)
      exact br_f (fun z => absurd ((ww_bit1 _ hi).mp z) (ww_ft e)) (w70 _ _ 0 w L r rfl (Or.inr ⟨e, rfl, ew, rfl⟩))
    · have v := (wok r).2 i e
      have lo := (ww_least_ok sh rg hc1 r).1 i hi
      refine br_t ((ww_bit1 _ hi).mpr e) (w70 _ _ 1 w L r2 rfl (Or.inl ⟨e, rfl, lo, ?_⟩))
      rw [ww_ans_pos v.1]; exact v.2
theorem ww_w_walks {n m : Nat} (hk : ¬ kn = 0) (sh : ww_Sh lv n m a3 a4 a5 a6 a7 a8 a9) (rg : n = ww_sz lv) (hc1 : ∀ c, c < 6 → 0 ≤ (a1 c).toInt ∧ (a1 c).toInt ≤ 50) (hb2 : ∀ h, h < 6 → ∃ k, 1 ≤ k ∧ k ≤ 3 ∧ a2 h = nI k)
    (H : ∀ w L r, ps 1 (kn, lv, nI n, nI m, a1, a2, a3, a4, a5, a6, a7, a8, a9, w, L, r)) : wpL_walks ps (kn, lv, nI n, nI m, a1, a2, a3, a4, a5, a6, a7, a8, a9, a10, a11, a12) lv := by
  refine ww_lop (fun f i s => wL_walks_7 ps lv (-1) f s (nI i) kn lv (nI n) (nI m) a1 a2 a3 a4 a5 a6 a7 a8 a9 a10 a11 a12) (fun h x => x ||| a7 h) 6 (fun s => s = ww_ins a7) ?_ ?_ 6 0 0 rfl rfl
  · intro f s q
    rw [q]
    exact br_t ww_6 (ww_w_walks32 hk sh rg hc1 hb2 H)
  · intro f i s hi hw
    exact br_f (nI_ge hi (by decide)) (ww_w_loop hk hi (nm_e (nm_r (nI_1 i) hw)))
end
end
section
/-! turns, and the law -/
theorem ww_mod6 (x : Int32) : ∃ k, k < 6 ∧ (x &&& 255) - (x &&& 255) / 6 * 6 = nI k := by
  obtain ⟨j, hj, e⟩ := pk_andE x (m := 255) 8 (by decide)
  refine ⟨j % 6, by omega, ?_⟩
  rw [e, show (6 : Int32) = nI 6 from rfl]
  exact pk_rem (by omega) (by omega) (by omega)
theorem ww_mod3 (x : Int32) : ∃ k, 1 ≤ k ∧ k ≤ 3 ∧ 1 + ((x &&& 255) - (x &&& 255) / 3 * 3) = nI k := by
  obtain ⟨j, hj, e⟩ := pk_andE x (m := 255) 8 (by decide)
  refine ⟨1 + j % 3, by omega, by omega, ?_⟩
  rw [e, show (3 : Int32) = nI 3 from rfl, pk_rem (by omega) (by omega) (by omega), show (1 : Int32) = nI 1 from rfl, nI_add]
/-- what holds of the object all along -/
def ww_Inv (kn lv od hc : Int32) (a1 a2 a3 a4 a5 a6 a7 a8 a9 : Nat → Int32) : Prop :=
  (∀ c, c < 6 → ∃ k, k ≤ 50 ∧ a1 c = nI k) ∧ (∀ c, c < 6 → ∃ k, 1 ≤ k ∧ k ≤ 3 ∧ a2 c = nI k) ∧ (∀ a, a < 6 → ww_sm (a3 a)) ∧ (∀ a, a < 6 → bt (a3 a) a = false) ∧
  (kn = 0 ∨ (¬ kn = 0 ∧ ∃ n m, od = nI n ∧ hc = nI m ∧ ww_Sh lv n m a3 a4 a5 a6 a7 a8 a9))
section
variable {ps : Int32 → St1 → Prop} {post : St1 → Prop} {kn lv od hc : Int32} {a1 a2 a3 a4 a5 a6 a7 a8 a9 a10 a11 a12 : Nat → Int32}
theorem ww_w_cost {a c : Nat} (ha : a < 6) (hc5 : c ≤ 50) (H : ps 1 (kn, lv, od, hc, upd a1 a (nI c), a2, a3, a4, a5, a6, a7, a8, a9, a10, a11, a12)) : wpX_cost ps (kn, lv, od, hc, a1, a2, a3, a4, a5, a6, a7, a8, a9, a10, a11, a12) (nI a) (nI c) := by
  have cl : (nI a).toNatClampNeg = a := nI_clamp (by omega)
  unfold wpX_cost
  refine ww_w_isB ha (br_f (by decide) (br_f (nI_pos (by omega)) (br_t (nI_le (b := 50) hc5 (by decide)) ⟨vp_in_nI ha (by decide), ?_⟩)))
  rw [cl, ww_n8c c (by omega)]
  exact nm_e H
theorem ww_w_bound {a c : Nat} (ha : a < 6) (h1 : 1 ≤ c) (h3 : c ≤ 3) (H : ps 1 (kn, lv, od, hc, a1, upd a2 a (nI c), a3, a4, a5, a6, a7, a8, a9, a10, a11, a12)) : wpX_bound ps (kn, lv, od, hc, a1, a2, a3, a4, a5, a6, a7, a8, a9, a10, a11, a12) (nI a) (nI c) := by
  have cl : (nI a).toNatClampNeg = a := nI_clamp (by omega)
  unfold wpX_bound
  refine ww_w_isB ha (br_f (by decide) (br_f (nI_nlt (b := 1) h1 (by omega)) (br_t (nI_le (b := 3) h3 (by decide)) ⟨vp_in_nI ha (by decide), ?_⟩)))
  rw [cl, ww_n8c c (by omega)]
  exact nm_e H
theorem ww_w_join {a b : Nat} (ha : a < 6) (hb : b < 6) (hs : ww_sm (a3 a)) (H0 : a = b → ps 0 (kn, lv, od, hc, a1, a2, a3, a4, a5, a6, a7, a8, a9, a10, a11, a12)) (H1 : a ≠ b → ps 1 (0, lv, od, hc, a1, a2, upd a3 a (a3 a ||| ((1 : Int32) <<< (nI b &&& 31))), a4, a5, a6, a7, a8, a9, a10, a11, a12)) : wpX_join ps (kn, lv, od, hc, a1, a2, a3, a4, a5, a6, a7, a8, a9, a10, a11, a12) (nI a) (nI b) := by
  have cl : (nI a).toNatClampNeg = a := nI_clamp (by omega)
  unfold wpX_join
  refine ww_w_isB ha (br_f (by decide) (ww_w_isB hb (br_f (by decide) (br_c (fun e => H0 ((nI_eq (by omega) (by omega)).mp e)) (fun e => ⟨vp_in_nI ha (by decide), vp_in_nI ha (by decide), ?_⟩)))))
  rw [cl, ww_n16 (ww_sm_or hs (ww_sm_one hb))]
  exact nm_e (H1 (fun z => e (by rw [z])))
theorem ww_w_cut {a b : Nat} (ha : a < 6) (hb : b < 6) (hs : ww_sm (a3 a)) (H0 : ps 0 (kn, lv, od, hc, a1, a2, a3, a4, a5, a6, a7, a8, a9, a10, a11, a12)) (H1 : ps 1 (0, lv, od, hc, a1, a2, upd a3 a (a3 a &&& (((1 : Int32) <<< (nI b &&& 31)) ^^^ (-1))), a4, a5, a6, a7, a8, a9, a10, a11, a12)) : wpX_cut ps (kn, lv, od, hc, a1, a2, a3, a4, a5, a6, a7, a8, a9, a10, a11, a12) (nI a) (nI b) := by
  have cl : (nI a).toNatClampNeg = a := nI_clamp (by omega)
  unfold wpX_cut
  refine ww_w_isB ha (br_f (by decide) (ww_w_isB hb (br_f (by decide) ⟨vp_in_nI ha (by decide), ?_⟩)))
  rw [cl]
  refine ww_in hb (fun _ => H0) (fun _ => ⟨vp_in_nI ha (by decide), vp_in_nI ha (by decide), ?_⟩)
  rw [ww_n16 (ww_sm_and hs)]
  exact nm_e H1
theorem ww_w_turn {p x : Int32} (I : ww_Inv kn lv od hc a1 a2 a3 a4 a5 a6 a7 a8 a9) (H : ∀ kn' b1 b2 b3, ww_Inv kn' lv od hc b1 b2 b3 a4 a5 a6 a7 a8 a9 → post (kn', lv, od, hc, b1, b2, b3, a4, a5, a6, a7, a8, a9, a10, a11, a12)) : wpL_turn post (kn, lv, od, hc, a1, a2, a3, a4, a5, a6, a7, a8, a9, a10, a11, a12) p x := by
  have I0 := I
  obtain ⟨i1, i2, i3, i4, i5⟩ := I
  obtain ⟨a, ha, ea⟩ := ww_mod6 x
  obtain ⟨b, hb, eb⟩ := ww_mod6 (x >>> ((8 : Int32) &&& 31))
  unfold wpL_turn
  refine ⟨by decide, nm_r ea ⟨by decide, nm_r eb (br_c (fun _ => br_c (fun _ => br_c (fun _ => ?_) (fun _ => ?_)) (fun _ => ⟨by decide, ?_⟩)) (fun _ => ?_))⟩⟩
  · refine ww_w_cut ha hb (i3 a ha) (H _ _ _ _ I0) (H 0 a1 a2 _ ⟨i1, i2, fun c hc => ?_, fun c hc => ?_, Or.inl rfl⟩)
    · by_cases e : c = a
      · rw [e, pk_us]; exact ww_sm_and (i3 a ha)
      · rw [pk_un e]; exact i3 c hc
    · by_cases e : c = a
      · rw [e, pk_us, b_and, i4 a ha]; rfl
      · rw [pk_un e]; exact i4 c hc
  · refine ww_w_join ha hb (i3 a ha) (fun _ => H _ _ _ _ I0) (fun ne => H 0 a1 a2 _ ⟨i1, i2, fun c hc => ?_, fun c hc => ?_, Or.inl rfl⟩)
    · by_cases e : c = a
      · rw [e, pk_us]; exact ww_sm_or (i3 a ha) (ww_sm_one hb)
      · rw [pk_un e]; exact i3 c hc
    · by_cases e : c = a
      · rw [e, pk_us, b_or, i4 a ha, ww_one hb, decide_eq_false ne]; rfl
      · rw [pk_un e]; exact i4 c hc
  · obtain ⟨k, k1, k3, ek⟩ := ww_mod3 (x >>> ((16 : Int32) &&& 31))
    rw [ek]
    refine ww_w_bound ha k1 k3 (H kn a1 _ a3 ⟨i1, fun c hc => ?_, i3, i4, i5⟩)
    by_cases e : c = a
    · rw [e, pk_us]; exact ⟨k, k1, k3, rfl⟩
    · rw [pk_un e]; exact i2 c hc
  · obtain ⟨k, k1, ek⟩ := pk_andE (x >>> ((16 : Int32) &&& 31)) (m := 31) 5 (by decide)
    rw [ek]
    refine ww_w_cost ha (by omega) (H kn _ a2 a3 ⟨fun c hc => ?_, i2, i3, i4, i5⟩)
    by_cases e : c = a
    · rw [e, pk_us]; exact ⟨k, by omega, rfl⟩
    · rw [pk_un e]; exact i1 c hc
/-- live(): afterwards the shape is known -/
theorem ww_w_liveI (I : ww_Inv kn lv od hc a1 a2 a3 a4 a5 a6 a7 a8 a9)
    (H : ∀ (k' lv' : Int32) (n m : Nat) (b4 b5 b6 b7 b8 b9 : Nat → Int32), ¬ k' = 0 → ww_Sh lv' n m a3 b4 b5 b6 b7 b8 b9 → ps lv' (k', lv', nI n, nI m, a1, a2, a3, b4, b5, b6, b7, b8, b9, a10, a11, a12)) : wpX_live ps (kn, lv, od, hc, a1, a2, a3, a4, a5, a6, a7, a8, a9, a10, a11, a12) := by
  obtain ⟨_, _, i3, i4, i5⟩ := I
  unfold wpX_live
  rcases i5 with e | ⟨e, n, m, e1, e2, sh⟩
  · rw [e]
    exact ww_w_learn0 i3 i4 (fun lv' n m b4 b5 b6 b7 b8 b9 sh => H 1 lv' n m b4 b5 b6 b7 b8 b9 (by decide) sh)
  · rw [e1, e2]
    exact ww_w_learn1 e (H kn lv n m a4 a5 a6 a7 a8 a9 e sh)
end
section
variable {post : Int32 → Prop} {kn lv od hc : Int32} {a1 a2 a3 a4 a5 a6 a7 a8 a9 a10 a11 a12 : Nat → Int32} {L : Nat} {xs : Nat → Int32} {kc ks : Nat}
theorem ww_w_law41 {J : Int32 → Int32 → Int32 → Int32 → Int32 → (Nat → Int32) → (Nat → Int32) → (Nat → Int32) → (Nat → Int32) → (Nat → Int32) → (Nat → Int32) → (Nat → Int32) → (Nat → Int32) → (Nat → Int32) → (Nat → Int32) → (Nat → Int32) → (Nat → Int32) → Prop} {x : Int32} {n m : Nat}
    (hk : ¬ kn = 0) (sh : ww_Sh lv n m a3 a4 a5 a6 a7 a8 a9) (H : J (x + 2) kn lv (nI n) (nI m) a1 a2 a3 a4 a5 a6 a7 a8 a9 a10 a11 a12) : ∃ f, wL_law_41 post L xs J x lv kc ks f 0 kn lv (nI n) (nI m) a1 a2 a3 a4 a5 a6 a7 a8 a9 a10 a11 a12 := by
  refine ww_lop (σ := Unit) (fun f i _ => wL_law_41 post L xs J x lv kc ks f (nI i) kn lv (nI n) (nI m) a1 a2 a3 a4 a5 a6 a7 a8 a9 a10 a11 a12) (fun _ s => s) 6 (fun _ => True) ?_ ?_ 6 0 () rfl trivial
  · intro f _ _
    exact br_t ww_6 (ww_w_reg hk sh.2.2.2.2.2.2.1.2.2.2.1 (fun _ => br_f (by decide) (ww_w_nested hk sh (br_f (by decide) (nm_e H)))) (fun _ => br_t rfl (nm_e H)))
  · intro f i _ hi hw
    exact br_f (nI_ge hi (by decide)) (ww_w_block hk sh hi (br_f (by decide) (nm_r (nI_1 i) hw)))
end
theorem ww_w_law10 {L : Nat} {xs : Nat → Int32} {kc ks : Nat} (hL : L ≤ 260) : ∀ (t i : Nat) (kn lv od hc : Int32) (a1 a2 a3 a4 a5 a6 a7 a8 a9 a10 a11 a12 : Nat → Int32), i ≤ 200 → L ≤ 2 * i + 2 * t → ww_Inv kn lv od hc a1 a2 a3 a4 a5 a6 a7 a8 a9 →
    wL_law_10 (fun r => r = 1) L xs kc ks (t + 1) (nI (2 * i)) kn lv od hc a1 a2 a3 a4 a5 a6 a7 a8 a9 a10 a11 a12 := by
  have fin : ∀ (t i : Nat) (kn lv od hc : Int32) (a1 a2 a3 a4 a5 a6 a7 a8 a9 a10 a11 a12 : Nat → Int32), i ≤ 200 → L ≤ 2 * i + 1 → ww_Inv kn lv od hc a1 a2 a3 a4 a5 a6 a7 a8 a9 →
      wL_law_10 (fun r => r = 1) L xs kc ks (t + 1) (nI (2 * i)) kn lv od hc a1 a2 a3 a4 a5 a6 a7 a8 a9 a10 a11 a12 := by
    intro t i kn lv od hc a1 a2 a3 a4 a5 a6 a7 a8 a9 a10 a11 a12 hi hle I
    refine br_t (by rw [nI_1]; exact nI_le hle (by omega)) (ww_w_liveI I (fun k' lv' n m b4 b5 b6 b7 b8 b9 hk sh => ww_w_reg hk sh.2.2.2.2.2.2.1.2.2.2.1 (fun rg => br_f (by decide) (ww_w_walks hk sh rg ?_ I.2.1 (fun w L r => br_f (by decide) rfl))) (fun _ => br_t rfl rfl)))
    intro c hc
    obtain ⟨k, k1, e⟩ := I.1 c hc
    rw [e, nI_toInt (by omega)]
    omega
  intro t
  induction t with
  | zero =>
    intro i kn lv od hc a1 a2 a3 a4 a5 a6 a7 a8 a9 a10 a11 a12 hi hle I
    exact fin 0 i kn lv od hc a1 a2 a3 a4 a5 a6 a7 a8 a9 a10 a11 a12 hi (by omega) I
  | succ t ih =>
    intro i kn lv od hc a1 a2 a3 a4 a5 a6 a7 a8 a9 a10 a11 a12 hi hle I
    by_cases g : L ≤ 2 * i + 1
    · exact fin (t + 1) i kn lv od hc a1 a2 a3 a4 a5 a6 a7 a8 a9 a10 a11 a12 hi g I
    · have e1 : nI (2 * i) + 1 = nI (2 * i + 1) := nI_1 _
      have e2 : nI (2 * i) + 2 = nI (2 * (i + 1)) := by rw [show (2 : Int32) = nI 2 from rfl, nI_add]; rfl
      refine br_f (by rw [e1]; exact nI_ge (by omega) (by omega)) ⟨vp_in_nI (by omega) (by omega), by rw [e1]; exact vp_in_nI (by omega) (by omega), ?_⟩
      refine ww_w_turn I (fun kn' b1 b2 b3 I' => ww_w_liveI I' (fun k' lv' n m b4 b5 b6 b7 b8 b9 hk sh => ww_w_law41 hk sh ?_))
      rw [e2]
      exact ih (i + 1) k' lv' (nI n) (nI m) b1 b2 b3 b4 b5 b6 b7 b8 b9 a10 a11 a12 (by omega) (by omega) ⟨I'.1, I'.2.1, I'.2.2.1, I'.2.2.2.1, Or.inr ⟨hk, n, m, rfl, rfl, sh⟩⟩
end
section
/-! the top -/
theorem i_vc (xs : Nat → Int32) (L : Nat) (hL : L ≤ 260) : wpL_law (fun r => r = 1) L xs := by
  refine ⟨12, 102, by omega, by omega, ?_⟩
  unfold wpX_init
  refine ⟨by omega, by omega, by omega, by omega, by omega, by omega, by omega, by omega, by omega, by omega, by omega, by omega, by omega, by omega, by omega, by omega, by omega, by omega, by omega, by omega, by omega, by omega, by omega, by omega, ?_⟩
  refine ww_lop (fun n i s => wX_init_102 _ 12 102 12 102 0 0 0 0 n (nI i) (fun _ => 0) s (fun _ => 0) (fun _ => 0) (fun _ => 0) (fun _ => 0) (fun _ => 0) (fun _ => 0) (fun _ => 0) (fun _ => 0) (fun _ => 0) (fun _ => 0)) (fun b r => upd r b 1) 6 (fun s => ∀ c, c < 6 → s c = 1) ?_ ?_ 6 0 (fun _ => 0) rfl ?_
  · intro n s q
    refine br_t ww_6 ⟨131, ww_w_law10 hL 130 0 0 0 0 0 _ _ _ _ _ _ _ _ _ _ _ _ (by omega) (by omega) ⟨fun c _ => ⟨0, by omega, rfl⟩, fun c hc => ⟨1, by omega, by omega, q c hc⟩, fun a _ => ww_sm_0, fun a _ => b_0 a, Or.inl rfl⟩⟩
  · intro n i s hi hw
    have cl : (nI i).toNatClampNeg = i := nI_clamp (by omega)
    refine br_f (nI_ge hi (by decide)) ⟨vp_in_nI hi (by decide), ?_⟩
    rw [cl]
    exact nm_e (nm_r (nI_1 i) hw)
  · exact ww_ind (fun i (s : Nat → Int32) => ∀ c, c < i → s c = 1) (fun b r => upd r b 1) 6 (by
      intro i s hi h c hc
      show upd s i 1 c = 1
      by_cases e : c = i
      · rw [e, pk_us]
      · rw [pk_un e]; exact h c (by omega)) 6 0 _ rfl (fun c hc => absurd hc (by omega))
end
