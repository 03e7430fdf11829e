section
/-! ===== one bit of a word; words that are zero, words of one bit ===== -/
def gl_b (k : Nat) : Int32 := (1 : Int32) <<< (nI k &&& 31)
theorem gl_b_nz : ∀ k, k < 32 → ¬ gl_b k = 0 := by decide +kernel
theorem gl_b_and : ∀ j, j < 32 → ∀ k, k < 32 → (gl_b j &&& gl_b k = 0 ↔ j ≠ k) := by decide +kernel
theorem gl_b_clr : ∀ k, k < 32 → gl_b k &&& (gl_b k ^^^ (-1)) = 0 := by decide +kernel
theorem gl_b_ush : ∀ j, j < 32 → ∀ k, k < 32 → ((((gl_b j).toUInt32 >>> ((nI k).toUInt32 &&& Int32.toUInt32 31)).toInt32 &&& 1) = 1 ↔ j = k) := by decide +kernel
theorem gl_z_ush (s : UInt32) : ¬ ((((0 : Int32).toUInt32 >>> s).toInt32 &&& 1) = 1) := by
  rw [show (0 : Int32).toUInt32 = 0 from rfl, UInt32.zero_shiftRight]
  decide
theorem gl_z_shr (s : Int32) : ¬ (((0 : Int32) >>> s) &&& 1) = 1 := by
  rw [Int32.zero_shiftRight]
  decide
theorem gl_z_shr0 (s : Int32) : (((0 : Int32) >>> s) &&& 1) = 0 := by
  rw [Int32.zero_shiftRight]
  decide
/-! small numbers under / and % -/
theorem gl_d9 {d : Nat} (h : d < 2 ^ 31) : nI d / 9 = nI (d / 9) := pk_div (d := 9) h (by decide) (by decide)
theorem gl_r9 {d : Nat} (h : d < 2 ^ 31) : nI d - nI d / 9 * 9 = nI (d % 9) := pk_rem (d := 9) h (by decide) (by decide)
theorem gl_d45 {d : Nat} (h : d < 2 ^ 31) : nI d / 45 = nI (d / 45) := pk_div (d := 45) h (by decide) (by decide)
theorem gl_r45 {d : Nat} (h : d < 2 ^ 31) : nI d - nI d / 45 * 45 = nI (d % 45) := pk_rem (d := 45) h (by decide) (by decide)
theorem gl_s5 {d : Nat} (h : d < 2 ^ 31) : nI d >>> ((5 : Int32) &&& 31) = nI (d / 32) := pk_shrN h _ 5 (by decide)
theorem gl_m31 {d : Nat} (h : d < 2 ^ 31) : nI d &&& 31 = nI (d % 32) := pk_andN (by omega) 5 (by decide)
theorem gl_big {x : Int32} {n : Nat} (hn : n < 2 ^ 31) (h : nI n ≤ x) : ¬ x < 0 ∧ ¬ x < nI n ∧ ∀ m, m < n → nI m < x := by
  have h0 : (0 : Int32).toInt = 0 := by decide
  rw [Int32.le_iff_toInt_le, nI_toInt hn] at h
  refine ⟨?_, ?_, fun m hm => ?_⟩
  · rw [Int32.lt_iff_toInt_lt, h0]; omega
  · rw [Int32.lt_iff_toInt_lt, nI_toInt hn]; omega
  · rw [Int32.lt_iff_toInt_lt, nI_toInt (by omega)]; omega
/-! pictures of an array -/
def gl_nil (n : Nat) (a : Nat → Int32) : Prop := ∀ w, w < n → a w = 0
def gl_one (a : Nat → Int32) (d : Nat) : Prop := ∀ w, w < 608 → a w = if w = d / 32 then gl_b (d % 32) else 0
theorem gl_nil_0 (a : Nat → Int32) : gl_nil 0 a := fun w h => absurd h (by omega)
theorem gl_nil_put {i : Nat} {a : Nat → Int32} (hi : i < 2 ^ 31) (h : gl_nil i a) : gl_nil (i + 1) (upd a (nI i).toNatClampNeg 0) := by
  intro w hw
  rw [nI_clamp hi]
  by_cases e : w = i
  · rw [e, pk_us]
  · rw [pk_un e]
    exact h w (by omega)
theorem gl_one_at {a : Nat → Int32} {d : Nat} (h : gl_one a d) (hd : d < 19440) : a (d / 32) = gl_b (d % 32) := by
  rw [h (d / 32) (by omega), if_pos rfl]
theorem gl_one_ne {a : Nat → Int32} {d w : Nat} (h : gl_one a d) (hw : w < 608) (e : w ≠ d / 32) : a w = 0 := by
  rw [h w hw, if_neg e]
/-- the bit d is set in words that are zero -/
theorem gl_set {a : Nat → Int32} {d : Nat} (h : gl_nil 608 a) (hd : d < 19440) : gl_one (upd a (d / 32) (a (d / 32) ||| gl_b (d % 32))) d := by
  intro w hw
  by_cases e : w = d / 32
  · rw [e, pk_us, if_pos rfl, h (d / 32) (by omega), Int32.zero_or]
  · rw [pk_un e, if_neg e]
    exact h w hw
/-- the bit d is taken away -/
theorem gl_clr {a : Nat → Int32} {d w k : Nat} (h : gl_one a d) (hd : d < 19440) (hw : w = d / 32) (hk : k = d % 32) : gl_nil 608 (upd a w (a w &&& (((1 : Int32) <<< (nI k &&& 31)) ^^^ (-1)))) := by
  intro v hv
  by_cases e : v = w
  · rw [e, pk_us, hw, gl_one_at h hd, hk]
    exact gl_b_clr _ (by omega)
  · rw [pk_un e]
    exact gl_one_ne h hv (by omega)
/-- another bit isn't set -/
theorem gl_off {a : Nat → Int32} {d e : Nat} (h : gl_one a d) (hd : d < 19440) (he : e < 19440) (ne : e ≠ d) : a (e / 32) &&& gl_b (e % 32) = 0 := by
  by_cases q : e / 32 = d / 32
  · rw [q, gl_one_at h hd]
    exact (gl_b_and _ (by omega) _ (by omega)).mpr (by omega)
  · rw [gl_one_ne h (by omega) q, Int32.zero_and]
theorem gl_off0 {a : Nat → Int32} {e : Nat} (h : gl_nil 608 a) (he : e < 19440) : a (e / 32) &&& gl_b (e % 32) = 0 := by
  rw [h (e / 32) (by omega), Int32.zero_and]
end
section
/-! ===== the sweeps: at most one descriptor is pending, and handling it leads on ===== -/
/-- the descriptor d alone is pending, and its handling ends in Q, whatever is asked of Q's states -/
def gl_pd (Q : St2 → Prop) (d : Nat) (u : St2) : Prop := match u with
  | (c, z, o, a1, a2, a3, a4, a5, a6, a7, a8, a9) => d < 19440 ∧ o = 1 ∧ gl_one a6 d ∧ ∀ (post : St2 → Prop), (∀ u', Q u' → post u') → ∀ b6, gl_nil 608 b6 → wpX_handle post (c, z, 0, a1, a2, a3, a4, a5, b6, a7, a8, a9) (nI (d / 9 / 45)) (nI (d / 9 % 45)) (nI (d % 9))
def gl_fin (Q : St2 → Prop) (u : St2) : Prop := match u with
  | (c, z, o, a1, a2, a3, a4, a5, a6, a7, a8, a9) => o = 0 ∧ gl_nil 608 a6 ∧ Q (c, z, o, a1, a2, a3, a4, a5, a6, a7, a8, a9)
/-- at most n descriptors are still to be handled, one behind the other -/
def gl_gd (Q : St2 → Prop) : Nat → St2 → Prop
  | 0 => fun u => gl_fin Q u
  | n + 1 => fun u => gl_gd Q n u ∨ ∃ d, gl_pd (gl_gd Q n) d u
theorem gl_gd_up {Q : St2 → Prop} {m n : Nat} {u : St2} (h : m ≤ n) (g : gl_gd Q m u) : gl_gd Q n u := by
  induction n with
  | zero =>
    have : m = 0 := by omega
    subst this
    exact g
  | succ n ih =>
    by_cases e : m = n + 1
    · subst e
      exact g
    · exact Or.inl (ih (by omega))
theorem gl_gd_of {Q : St2 → Prop} {m n d : Nat} {u : St2} (h : m < n) (g : gl_pd (gl_gd Q m) d u) : gl_gd Q n u :=
  gl_gd_up (m := m + 1) h (Or.inr ⟨d, g⟩)
theorem gl_gd_fin {Q : St2 → Prop} {n : Nat} {u : St2} (g : gl_fin Q u) : gl_gd Q n u := gl_gd_up (m := 0) (Nat.zero_le n) g
theorem gl_gd_cases {Q : St2 → Prop} {n : Nat} {u : St2} (g : gl_gd Q n u) : gl_fin Q u ∨ ∃ m d, m < n ∧ gl_pd (gl_gd Q m) d u := by
  induction n with
  | zero => exact Or.inl g
  | succ n ih =>
    rcases g with g | ⟨d, g⟩
    · rcases ih g with h | ⟨m, d, hm, h⟩
      · exact Or.inl h
      · exact Or.inr ⟨m, d, by omega, h⟩
    · exact Or.inr ⟨n, d, by omega, g⟩
/-- within a sweep at the place x: one has been handled already, or the pending one lies ahead -/
def gl_at (Q : St2 → Prop) (n x : Nat) (u : St2) : Prop := gl_fin Q u ∨ ∃ m d, m ≤ n ∧ (m = n → x ≤ d) ∧ gl_pd (gl_gd Q m) d u
theorem gl_at_of {Q : St2 → Prop} {n x : Nat} {u : St2} (g : gl_gd Q n u) : gl_at Q n x u := by
  rcases gl_gd_cases g with h | ⟨m, d, hm, h⟩
  · exact Or.inl h
  · exact Or.inr ⟨m, d, by omega, fun e => absurd e (by omega), h⟩
theorem gl_at_0 {Q : St2 → Prop} {n : Nat} {u : St2} (g : gl_gd Q (n + 1) u) : gl_at Q n 0 u := by
  rcases gl_gd_cases g with h | ⟨m, d, hm, h⟩
  · exact Or.inl h
  · exact Or.inr ⟨m, d, by omega, fun _ => Nat.zero_le d, h⟩
theorem gl_at_end {Q : St2 → Prop} {n : Nat} {u : St2} (g : gl_at Q n (32 * 608) u) : gl_gd Q n u := by
  rcases g with h | ⟨m, d, hm, hx, h⟩
  · exact gl_gd_fin h
  · by_cases e : m = n
    · have h1 := hx e
      obtain ⟨c, z, o, a1, a2, a3, a4, a5, a6, a7, a8, a9⟩ := u
      have h2 : d < 19440 := h.1
      omega
    · exact gl_gd_of (by omega) h
theorem gl_hw {Q post : St2 → Prop} {n w : Nat} (hw : w < 608) (H : ∀ u, gl_at Q n (32 * w + 32) u → post u) : ∀ (j k : Nat) (c z o : Int32) (a1 a2 a3 a4 a5 a6 a7 a8 a9 : Nat → Int32), k + j = 32 → gl_at Q n (32 * w + k) (c, z, o, a1, a2, a3, a4, a5, a6, a7, a8, a9) → wX_handleWord_2 post (nI w) (j + 1) (nI k) c z o a1 a2 a3 a4 a5 a6 a7 a8 a9 := by
  intro j
  induction j with
  | zero =>
    intro k c z o a1 a2 a3 a4 a5 a6 a7 a8 a9 hk g
    have : k = 32 := by omega
    subst this
    exact br_t (by decide) (H _ g)
  | succ j ih =>
    intro k c z o a1 a2 a3 a4 a5 a6 a7 a8 a9 hk g
    refine br_f (nI_ge (b := 32) (by omega) (by decide)) ⟨pk_in w 608 hw, ?_⟩
    rw [nI_clamp (show w < 2 ^ 31 by omega)]
    rcases g with g | ⟨m, d, hm, hx, g⟩
    · refine br_f ?_ (nm_r (nI_1 k) (ih (k + 1) c z o a1 a2 a3 a4 a5 a6 a7 a8 a9 (by omega) (Or.inl g)))
      rw [g.2.1 w hw]
      exact gl_z_ush _
    · obtain ⟨hd, ho, h1, hh⟩ := g
      by_cases e : d = 32 * w + k
      · have e1 : w = d / 32 := by omega
        have e2 : k = d % 32 := by omega
        have eo : o - 1 = 0 := by rw [ho]; decide
        have e3 : 32 * nI w + nI k = nI d := by
          rw [e, ← nI_add, ← pk_mul]
          rfl
        refine br_t ?_ ⟨pk_in w 608 hw, pk_in w 608 hw, nm_e (nm_r eo (nm_r e3 ⟨by decide, nm_r (gl_d9 (by omega)) ⟨by decide, by decide, by decide, ?_⟩⟩))⟩
        · rw [h1 w hw, if_pos e1]
          exact (gl_b_ush _ (by omega) _ (by omega)).mpr e2.symm
        · rw [gl_r45 (by omega), gl_d45 (by omega), gl_r9 (by omega)]
          refine hh _ ?_ _ (gl_clr h1 hd e1 e2)
          rintro ⟨c, z, o, a1, a2, a3, a4, a5, a6, a7, a8, a9⟩ g'
          exact nm_r (nI_1 k) (ih (k + 1) c z o a1 a2 a3 a4 a5 a6 a7 a8 a9 (by omega) (gl_at_of (gl_gd_up hm g')))
      · refine br_f ?_ (nm_r (nI_1 k) (ih (k + 1) c z o a1 a2 a3 a4 a5 a6 a7 a8 a9 (by omega) (Or.inr ⟨m, d, hm, fun q => ?_, hd, ho, h1, hh⟩)))
        · rw [h1 w hw]
          by_cases e1 : w = d / 32
          · rw [if_pos e1]
            exact fun z => absurd ((gl_b_ush _ (by omega) _ (by omega)).mp z) (by omega)
          · rw [if_neg e1]
            exact gl_z_ush _
        · have := hx q
          omega
theorem gl_skip {Q : St2 → Prop} {n w : Nat} {c z o : Int32} {a1 a2 a3 a4 a5 a6 a7 a8 a9 : Nat → Int32} (hw : w < 608) (e : a6 w = 0) (g : gl_at Q n (32 * w) (c, z, o, a1, a2, a3, a4, a5, a6, a7, a8, a9)) : gl_at Q n (32 * (w + 1)) (c, z, o, a1, a2, a3, a4, a5, a6, a7, a8, a9) := by
  rcases g with g | ⟨m, d, hm, hx, hd, ho, h1, hh⟩
  · exact Or.inl g
  · refine Or.inr ⟨m, d, hm, fun q => ?_, hd, ho, h1, hh⟩
    have h2 := hx q
    by_cases e1 : w = d / 32
    · rw [h1 w hw, if_pos e1] at e
      exact absurd e (gl_b_nz _ (by omega))
    · omega
theorem gl_r18 {Q post : St2 → Prop} {J : Int32 → Int32 → Int32 → Int32 → (Nat → Int32) → (Nat → Int32) → (Nat → Int32) → (Nat → Int32) → (Nat → Int32) → (Nat → Int32) → (Nat → Int32) → (Nat → Int32) → (Nat → Int32) → Prop} {n s : Nat} (H : ∀ (c z o : Int32) (a1 a2 a3 a4 a5 a6 a7 a8 a9 : Nat → Int32), gl_gd Q n (c, z, o, a1, a2, a3, a4, a5, a6, a7, a8, a9) → J (nI (s + 1)) c z o a1 a2 a3 a4 a5 a6 a7 a8 a9) : ∀ (j w : Nat) (c z o : Int32) (a1 a2 a3 a4 a5 a6 a7 a8 a9 : Nat → Int32), w + j = 608 → gl_at Q n (32 * w) (c, z, o, a1, a2, a3, a4, a5, a6, a7, a8, a9) → wX_run_18 post J (nI s) (j + 1) (nI w) c z o a1 a2 a3 a4 a5 a6 a7 a8 a9 := by
  intro j
  induction j with
  | zero =>
    intro w c z o a1 a2 a3 a4 a5 a6 a7 a8 a9 hk g
    have : w = 608 := by omega
    subst this
    exact br_t (by decide) (nm_r (nI_1 s) (H c z o a1 a2 a3 a4 a5 a6 a7 a8 a9 (gl_at_end g)))
  | succ j ih =>
    intro w c z o a1 a2 a3 a4 a5 a6 a7 a8 a9 hk g
    refine br_f (nI_ge (b := 608) (by omega) (by decide)) ⟨pk_in w 608 (by omega), ?_⟩
    rw [nI_clamp (show w < 2 ^ 31 by omega)]
    refine br_c (fun e => nm_r (nI_1 w) (ih (w + 1) c z o a1 a2 a3 a4 a5 a6 a7 a8 a9 (by omega) (gl_skip (by omega) e g))) (fun _ => ?_)
    refine ⟨32 + 1, gl_hw (Q := Q) (n := n) (by omega) ?_ 32 0 c z o a1 a2 a3 a4 a5 a6 a7 a8 a9 (by omega) g⟩
    rintro ⟨c, z, o, a1, a2, a3, a4, a5, a6, a7, a8, a9⟩ g'
    exact nm_r (nI_1 w) (ih (w + 1) c z o a1 a2 a3 a4 a5 a6 a7 a8 a9 (by omega) g')
theorem gl_r2 {Q post : St2 → Prop} (H : ∀ u, gl_fin Q u → post u) : ∀ (n s : Nat) (c z o : Int32) (a1 a2 a3 a4 a5 a6 a7 a8 a9 : Nat → Int32), s + n ≤ 19441 → gl_gd Q n (c, z, o, a1, a2, a3, a4, a5, a6, a7, a8, a9) → wX_run_2 post (n + 1) (nI s) c z o a1 a2 a3 a4 a5 a6 a7 a8 a9 := by
  intro n
  induction n with
  | zero =>
    intro s c z o a1 a2 a3 a4 a5 a6 a7 a8 a9 hs g
    refine pk_le 19441 s (fun _ => H _ g) (fun _ => br_t ?_ (H _ g))
    rw [show o = 0 from g.1]
    decide
  | succ n ih =>
    intro s c z o a1 a2 a3 a4 a5 a6 a7 a8 a9 hs g
    refine pk_le 19441 s (fun q => absurd q (by omega)) (fun _ => br_c (fun q => ?_) (fun q => ?_))
    · rcases gl_gd_cases g with h | ⟨m, d, hm, h⟩
      · exact H _ h
      · have h2 : o = 1 := h.2.1
        rw [h2] at q
        exact absurd q (by decide)
    · exact ⟨608 + 1, gl_r18 (Q := Q) (n := n) (fun c z o a1 a2 a3 a4 a5 a6 a7 a8 a9 g' => ih (s + 1) c z o a1 a2 a3 a4 a5 a6 a7 a8 a9 (by omega) g') 608 0 c z o a1 a2 a3 a4 a5 a6 a7 a8 a9 (by omega) (gl_at_0 g)⟩
theorem gl_run {Q post : St2 → Prop} {n : Nat} {c z o : Int32} {a1 a2 a3 a4 a5 a6 a7 a8 a9 : Nat → Int32} (hn : n ≤ 19441) (g : gl_gd Q n (c, z, o, a1, a2, a3, a4, a5, a6, a7, a8, a9)) (H : ∀ u, gl_fin Q u → post u) : wpX_run post (c, z, o, a1, a2, a3, a4, a5, a6, a7, a8, a9) :=
  ⟨n + 1, gl_r2 H n 0 c z o a1 a2 a3 a4 a5 a6 a7 a8 a9 (by omega) g⟩
end
section
/-! ===== the methods below endsOf ===== -/
theorem gl_s58 {post : St2 → Prop} {c z o : Int32} {a1 a2 a3 a4 a5 a6 a7 a8 a9 : Nat → Int32} (H : ∀ b8 b9, gl_nil 45 b8 → gl_nil 45 b9 → post (c, z, o, a1, a2, a3, a4, a5, a6, a7, b8, b9)) : ∃ n, wX_start_58 post c z o n 0 a1 a2 a3 a4 a5 a6 a7 a8 a9 :=
  pk_loop (σ := (Nat → Int32) × (Nat → Int32)) (fun n i s => wX_start_58 post c z o n (nI i) a1 a2 a3 a4 a5 a6 a7 s.1 s.2) (fun i s => gl_nil i s.1 ∧ gl_nil i s.2) 45 0 (a8, a9) (by omega) ⟨gl_nil_0 _, gl_nil_0 _⟩
    (fun n s h => pk_le 45 45 (fun _ => H _ _ h.1 h.2) (fun q => absurd q (by omega)))
    (fun n i s hi h hw => pk_le 45 i (fun q => absurd q (by omega)) (fun _ => ⟨pk_in i 45 hi, nm_e ⟨pk_in i 45 hi, nm_e (nm_r (nI_1 i) (hw (upd s.1 (nI i).toNatClampNeg 0, upd s.2 (nI i).toNatClampNeg 0) ⟨gl_nil_put (by omega) h.1, gl_nil_put (by omega) h.2⟩))⟩⟩))
theorem gl_s36 {post : St2 → Prop} {c z o : Int32} {a1 a2 a3 a4 a5 a6 a7 a8 a9 : Nat → Int32} (H : ∀ b7, gl_nil 3060 b7 → ∃ n, wX_start_58 post c z o n 0 a1 a2 a3 a4 a5 a6 b7 a8 a9) : ∃ n, wX_start_36 post c z o n 0 a1 a2 a3 a4 a5 a6 a7 a8 a9 :=
  pk_loop (σ := Nat → Int32) (fun n i s => wX_start_36 post c z o n (nI i) a1 a2 a3 a4 a5 a6 s a8 a9) (fun i s => gl_nil i s) 3060 0 a7 (by omega) (gl_nil_0 _)
    (fun n s h => pk_le 3060 3060 (fun _ => H _ h) (fun q => absurd q (by omega)))
    (fun n i s hi h hw => pk_le 3060 i (fun q => absurd q (by omega)) (fun _ => ⟨pk_in i 3060 hi, nm_e (nm_r (nI_1 i) (hw (upd s (nI i).toNatClampNeg 0) (gl_nil_put (by omega) h)))⟩))
theorem gl_s7 {post : St2 → Prop} {c z o : Int32} {a1 a2 a3 a4 a5 a6 a7 a8 a9 : Nat → Int32} (H : ∀ b5 b6, gl_nil 608 b5 → gl_nil 608 b6 → ∃ n, wX_start_36 post c z o n 0 a1 a2 a3 a4 b5 b6 a7 a8 a9) : ∃ n, wX_start_7 post c z o n 0 a1 a2 a3 a4 a5 a6 a7 a8 a9 :=
  pk_loop (σ := (Nat → Int32) × (Nat → Int32)) (fun n i s => wX_start_7 post c z o n (nI i) a1 a2 a3 a4 s.1 s.2 a7 a8 a9) (fun i s => gl_nil i s.1 ∧ gl_nil i s.2) 608 0 (a5, a6) (by omega) ⟨gl_nil_0 _, gl_nil_0 _⟩
    (fun n s h => pk_le 608 608 (fun _ => H _ _ h.1 h.2) (fun q => absurd q (by omega)))
    (fun n i s hi h hw => pk_le 608 i (fun q => absurd q (by omega)) (fun _ => ⟨pk_in i 608 hi, nm_e ⟨pk_in i 608 hi, nm_e (nm_r (nI_1 i) (hw (upd s.1 (nI i).toNatClampNeg 0, upd s.2 (nI i).toNatClampNeg 0) ⟨gl_nil_put (by omega) h.1, gl_nil_put (by omega) h.2⟩))⟩⟩))
theorem gl_start {post : St2 → Prop} {c z o : Int32} {a1 a2 a3 a4 a5 a6 a7 a8 a9 : Nat → Int32} (H : ∀ b5 b6 b7 b8 b9, gl_nil 608 b5 → gl_nil 608 b6 → gl_nil 3060 b7 → gl_nil 45 b8 → gl_nil 45 b9 → post (c, z, 0, a1, a2, a3, a4, b5, b6, b7, b8, b9)) : wpX_start post (c, z, o, a1, a2, a3, a4, a5, a6, a7, a8, a9) :=
  gl_s7 (fun b5 b6 h5 h6 => gl_s36 (fun b7 h7 => gl_s58 (fun b8 b9 h8 h9 => H b5 b6 b7 b8 b9 h5 h6 h7 h8 h9)))
theorem gl_add {post : St2 → Prop} {lab nd pl d : Nat} {c z o : Int32} {a1 a2 a3 a4 a5 a6 a7 a8 a9 : Nat → Int32} (hd : (lab * 45 + nd) * 9 + pl = d) (h : d < 19440)
    (H0 : a5 (d / 32) &&& gl_b (d % 32) = 0 → post (c, z, o + 1, a1, a2, a3, a4, upd a5 (d / 32) (a5 (d / 32) ||| gl_b (d % 32)), upd a6 (d / 32) (a6 (d / 32) ||| gl_b (d % 32)), a7, a8, a9))
    (H1 : ¬ a5 (d / 32) &&& gl_b (d % 32) = 0 → post (c, z, o, a1, a2, a3, a4, a5, a6, a7, a8, a9)) : wpX_add post (c, z, o, a1, a2, a3, a4, a5, a6, a7, a8, a9) (nI lab) (nI nd) (nI pl) := by
  intro x4 e4 x5 e5
  have e4' : x4 = nI d := by
    rw [e4, ← hd, ← nI_add, ← pk_mul, ← nI_add, ← pk_mul]
    rfl
  have e5' : x5 = gl_b (d % 32) := by
    rw [e5, e4', gl_m31 (by omega)]
    rfl
  clear e4 e5
  subst e4' e5'
  rw [gl_s5 (by omega), nI_clamp (show d / 32 < 2 ^ 31 by omega)]
  exact ⟨pk_in (d / 32) 608 (by omega), br_c (fun e => ⟨pk_in (d / 32) 608 (by omega), pk_in (d / 32) 608 (by omega), nm_e ⟨pk_in (d / 32) 608 (by omega), pk_in (d / 32) 608 (by omega), nm_e (nm_e (H0 e))⟩⟩) H1⟩
theorem gl_call {post : St2 → Prop} {cn nd d : Nat} {z : Int32} {o : Int32} {a1 a2 a3 a4 a5 a6 a7 a8 a9 : Nat → Int32} (hc : cn ≤ 1) (hn : nd < 45) (hd : d = nd * 9 + nd % 9)
    (H0 : ¬ a9 nd = 0 → post (nI cn, z, o, a1, a2, a3, a4, a5, a6, a7, a8, a9))
    (H1 : a9 nd = 0 → ¬ (cn = 1 ∧ a1 0 = nI (nd / 9)) → post (nI cn, z, o, a1, a2, a3, a4, a5, a6, a7, a8, upd a9 nd 1))
    (H2 : a9 nd = 0 → cn = 1 → a1 0 = nI (nd / 9) → a5 (d / 32) &&& gl_b (d % 32) = 0 → post (nI cn, z, o + 1, a1, a2, a3, a4, upd a5 (d / 32) (a5 (d / 32) ||| gl_b (d % 32)), upd a6 (d / 32) (a6 (d / 32) ||| gl_b (d % 32)), a7, a8, upd a9 nd 1))
    (H3 : a9 nd = 0 → cn = 1 → a1 0 = nI (nd / 9) → ¬ a5 (d / 32) &&& gl_b (d % 32) = 0 → post (nI cn, z, o, a1, a2, a3, a4, a5, a6, a7, a8, upd a9 nd 1)) : wpX_call post (nI cn, z, o, a1, a2, a3, a4, a5, a6, a7, a8, a9) (nI nd) := by
  unfold wpX_call
  dsimp only
  rw [nI_clamp (show nd < 2 ^ 31 by omega)]
  refine ⟨pk_in nd 45 hn, br_c (fun e => ⟨pk_in nd 45 hn, nm_e ⟨1 + 1, ?_⟩⟩) H0⟩
  by_cases h1 : cn = 1
  · subst h1
    refine br_f (by decide) ⟨pk_in 0 12 (by decide), by decide, ?_⟩
    rw [gl_r9 (show nd < 2 ^ 31 by omega), gl_d9 (show nd < 2 ^ 31 by omega), show (0 : Int32).toNatClampNeg = 0 from rfl]
    refine br_c (fun q => ⟨by decide, ?_⟩) (fun q => nm_e (br_t (by decide) (H1 e (fun t => q t.2))))
    exact gl_add (lab := 0) (d := d) (by omega) (by omega) (fun s => nm_e (br_t (by decide) (H2 e rfl q s))) (fun s => nm_e (br_t (by decide) (H3 e rfl q s)))
  · have h0 : cn = 0 := by omega
    subst h0
    exact br_t (by decide) (H1 e (fun t => absurd t.1 (by decide)))
theorem gl_att62 {post : St2 → Prop} {nd : Nat} {x2 x3 : Int32} {c z o : Int32} {a1 a2 a3 a4 a5 a6 a7 a8 a9 : Nat → Int32} (hn : nd < 45) (h8 : a8 nd = 0) (H : ∀ post' : St2 → Prop, (∀ u, post u → post' u) → wpX_call post' (c, z, o, a1, a2, a3, a4, a5, a6, a7, a8, a9) (nI nd)) : ∃ n, wX_attend_62 post (nI nd) x2 x3 n 0 c z o a1 a2 a3 a4 a5 a6 a7 a8 a9 :=
  pk_loop (σ := Unit) (fun n i _ => wX_attend_62 post (nI nd) x2 x3 n (nI i) c z o a1 a2 a3 a4 a5 a6 a7 a8 a9) (fun _ _ => True) 9 0 () (by omega) trivial
    (fun n _ _ => pk_le 9 9 (fun _ => H _ (by rintro ⟨c, z, o, a1, a2, a3, a4, a5, a6, a7, a8, a9⟩ hu; exact hu)) (fun q => absurd q (by omega)))
    (fun n i _ hi _ hw => pk_le 9 i (fun q => absurd q (by omega)) (fun _ => ⟨pk_in nd 45 hn, br_f (by rw [nI_clamp (by omega), h8]; exact gl_z_shr _) (nm_r (nI_1 i) (hw () trivial))⟩))
theorem gl_attend {post : St2 → Prop} {cn nd lb cl d : Nat} {z : Int32} {o : Int32} {a1 a2 a3 a4 a5 a6 a7 a8 a9 : Nat → Int32} (hc : cn ≤ 1) (hn : nd < 45) (hl : lb < 48) (hcl : cl < 45) (hd : d = nd * 9 + nd % 9) (h8 : a8 nd = 0)
    (Hs : ∀ b7 b9, post (nI cn, z, o, a1, a2, a3, a4, a5, a6, b7, a8, b9))
    (Ha : a9 nd = 0 → cn = 1 → a1 0 = nI (nd / 9) → ∀ b5 b7 b9, post (nI cn, z, o + 1, a1, a2, a3, a4, b5, upd a6 (d / 32) (a6 (d / 32) ||| gl_b (d % 32)), b7, a8, b9)) : wpX_attend post (nI cn, z, o, a1, a2, a3, a4, a5, a6, a7, a8, a9) (nI nd) (nI lb) (nI cl) := by
  intro x4 e4 x5 e5 x6 e6
  have e4' : x4 = nI (lb * 45 + cl) := by
    rw [e4, ← nI_add, ← pk_mul]
    rfl
  have e5' : x5 = nI (68 * nd + (lb * 45 + cl) / 32) := by
    rw [e5, e4', gl_s5 (by omega), ← nI_add, ← pk_mul]
    rfl
  clear e4 e5 e6
  subst e5'
  rw [nI_clamp (show 68 * nd + (lb * 45 + cl) / 32 < 2 ^ 31 by omega)]
  refine ⟨pk_in (68 * nd + (lb * 45 + cl) / 32) 3060 (by omega), br_c (fun _ => ⟨pk_in (68 * nd + (lb * 45 + cl) / 32) 3060 (by omega), pk_in (68 * nd + (lb * 45 + cl) / 32) 3060 (by omega), nm_e (gl_att62 hn h8 (fun post' hp => ?_))⟩) (fun _ => Hs _ _)⟩
  exact gl_call hc hn hd (fun _ => hp _ (Hs _ _)) (fun _ _ => hp _ (Hs _ _)) (fun q1 q2 q3 _ => hp _ (Ha q1 q2 q3 _ _ _)) (fun _ _ _ _ => hp _ (Hs _ _))
theorem gl_f33 {post : St2 → Prop} {nd : Nat} {x2 : Int32} {c z o : Int32} {a1 a2 a3 a4 a5 a6 a7 a8 a9 : Nat → Int32} (hn : nd < 45) (h7 : gl_nil 3060 a7) (H : post (c, z, o, a1, a2, a3, a4, a5, a6, a7, a8, a9)) : ∃ n, wX_finish_33 post (nI nd) x2 n 0 c z o a1 a2 a3 a4 a5 a6 a7 a8 a9 :=
  pk_loop (σ := Unit) (fun n i _ => wX_finish_33 post (nI nd) x2 n (nI i) c z o a1 a2 a3 a4 a5 a6 a7 a8 a9) (fun _ _ => True) 2160 0 () (by omega) trivial
    (fun n _ _ => pk_le 2160 2160 (fun _ => H) (fun q => absurd q (by omega)))
    (fun n i _ hi _ hw => pk_le 2160 i (fun q => absurd q (by omega)) (fun _ => by
      have e : 68 * nI nd + (nI i >>> ((5 : Int32) &&& 31)) = nI (68 * nd + i / 32) := by
        rw [gl_s5 (by omega), ← nI_add, ← pk_mul]
        rfl
      rw [e, nI_clamp (show 68 * nd + i / 32 < 2 ^ 31 by omega), h7 _ (by omega)]
      exact ⟨pk_in (68 * nd + i / 32) 3060 (by omega), br_f (gl_z_ush _) (nm_r (nI_1 i) (hw () trivial))⟩))
theorem gl_finish {post : St2 → Prop} {nd pl : Nat} {c z o : Int32} {a1 a2 a3 a4 a5 a6 a7 a8 a9 : Nat → Int32} (hn : nd < 45) (h8 : a8 nd = 0) (h7 : gl_nil 3060 a7) (H : post (c, z, o, a1, a2, a3, a4, a5, a6, a7, upd a8 nd (gl_b pl), a9)) : wpX_finish post (c, z, o, a1, a2, a3, a4, a5, a6, a7, a8, a9) (nI nd) (nI pl) := by
  unfold wpX_finish
  dsimp only
  rw [nI_clamp (show nd < 2 ^ 31 by omega), h8]
  refine ⟨pk_in nd 45 hn, br_f (gl_z_shr _) ⟨pk_in nd 45 hn, pk_in nd 45 hn, nm_r (e' := upd a8 nd (gl_b pl)) ?_ (gl_f33 hn h7 H)⟩⟩
  rw [Int32.zero_or]
  rfl
theorem gl_handle {post : St2 → Prop} {cn zz dg lab nd pl nq dq da : Nat} {sg : Nat → Nat} {o : Int32} {a1 a2 a3 a4 a5 a6 a7 a8 a9 : Nat → Int32} (hc : cn ≤ 1) (hz : zz ≤ 1) (hl : lab ≤ dg) (hd : dg ≤ 3) (hn : nd < 45) (hp : pl ≤ 1) (h3 : a3 0 = nI dg) (h2 : ∀ k, k < dg → a2 k = nI (sg k) ∧ sg k < 8) (h8 : gl_nil 45 a8) (h7 : lab = dg → gl_nil 3060 a7) (hnq : nq = 9 * sg lab + pl) (hdq : dq = nq * 9 + pl) (hda : da = ((lab + 1) * 45 + nd) * 9 + (pl + 1))
    (Hf : lab = dg → post (nI cn, nI zz, o, a1, a2, a3, a4, a5, a6, a7, upd a8 nd (gl_b pl), a9))
    (Hs : lab < dg → (sg lab < 5 ∨ ¬ (pl < zz ∧ a4 pl = nI (sg lab))) → ∀ b7 b9, post (nI cn, nI zz, o, a1, a2, a3, a4, a5, a6, b7, a8, b9))
    (Hc : lab < dg → sg lab < 5 → a9 nq = 0 → cn = 1 → a1 0 = nI (sg lab) → ∀ b5 b7 b9, post (nI cn, nI zz, o + 1, a1, a2, a3, a4, b5, upd a6 (dq / 32) (a6 (dq / 32) ||| gl_b (dq % 32)), b7, a8, b9))
    (Ha : lab < dg → 5 ≤ sg lab → pl < zz → a4 pl = nI (sg lab) → a5 (da / 32) &&& gl_b (da % 32) = 0 → post (nI cn, nI zz, o + 1, a1, a2, a3, a4, upd a5 (da / 32) (a5 (da / 32) ||| gl_b (da % 32)), upd a6 (da / 32) (a6 (da / 32) ||| gl_b (da % 32)), a7, a8, a9))
    (Hb : lab < dg → 5 ≤ sg lab → pl < zz → a4 pl = nI (sg lab) → ¬ a5 (da / 32) &&& gl_b (da % 32) = 0 → post (nI cn, nI zz, o, a1, a2, a3, a4, a5, a6, a7, a8, a9)) : wpX_handle post (nI cn, nI zz, o, a1, a2, a3, a4, a5, a6, a7, a8, a9) (nI lab) (nI nd) (nI pl) := by
  intro x4 e4 x5 e5
  have e4' : x4 = nI 0 := by
    rw [e4, pk_shrN (by omega) _ 2 (by decide)]
    exact congrArg nI (by omega)
  have e5' : x5 = nI lab := by
    rw [e5, pk_andN (by omega) 2 (by decide)]
    exact congrArg nI (by omega)
  clear e4 e5
  subst e4' e5'
  have e36 : 3 * nI 0 + nI lab = nI lab := by
    rw [show (3 : Int32) * nI 0 = nI 0 from rfl, nI_add, Nat.zero_add]
  rw [nI_clamp (show 0 < 2 ^ 31 by decide), e36, nI_clamp (show lab < 2 ^ 31 by omega), h3]
  refine ⟨pk_in 0 12 (by decide), pk_eq lab dg (fun q => gl_finish hn (h8 nd hn) (h7 q) (Hf q)) (fun q => ⟨pk_in lab 36 (by omega), ?_⟩)⟩
  have hl' : lab < dg := by omega
  obtain ⟨e6, h6⟩ := h2 lab hl'
  refine nm_r e6 (pk_lt (sg lab) 5 (fun s => ?_) (fun s => pk_le zz pl (fun t => Hs hl' (Or.inr (fun w => absurd w.1 (by omega))) _ _) (fun t => ⟨pk_in pl 9 (by omega), ?_⟩)))
  · have e9 : 9 * nI (sg lab) + nI pl = nI nq := by
      rw [hnq, ← nI_add, ← pk_mul]
      rfl
    rw [e9, nI_1]
    have e10 : nq / 9 = sg lab := by omega
    exact gl_attend (d := dq) hc (by omega) (by omega) hn (by omega) (h8 nq (by omega)) (Hs hl' (Or.inl s)) (fun q1 q2 q3 => Hc hl' s q1 q2 (by rw [q3, e10]))
  · rw [nI_clamp (show pl < 2 ^ 31 by omega), nI_1, nI_1]
    exact br_c (fun v => gl_add (d := da) hda.symm (by omega) (fun w => Ha hl' s t v w) (fun w => Hb hl' s t v w)) (fun v => Hs hl' (Or.inr (fun w => v w.2)) _ _)
end
section
/-! ===== endsOf: what a recogniser of at most one rule and one letter finds ===== -/
/-- cn rules, zz letters; the rule: nm -> sg 0 .. sg (dg - 1); the letter: lt -/
def gl_K (cn zz nm dg lt : Nat) (sg : Nat → Nat) (a1 a2 a3 a4 : Nat → Int32) : Prop := cn ≤ 1 ∧ zz ≤ 1 ∧ nm < 5 ∧ dg ≤ 3 ∧ lt < 8 ∧ (zz = 1 → 5 ≤ lt) ∧ a1 0 = nI nm ∧ a3 0 = nI dg ∧ a4 0 = nI lt ∧ ∀ k, k < dg → a2 k = nI (sg k) ∧ sg k < 8
/-- the ends of the rule's own name from p on -/
def gl_E (zz dg lt : Nat) (sg : Nat → Nat) (p : Nat) : Int32 := if dg = 0 then gl_b p else if dg = 1 ∧ p < zz ∧ sg 0 = lt then gl_b 1 else 0
def gl_En (cn zz nm dg lt : Nat) (sg : Nat → Nat) (sign p : Nat) : Int32 := if sign < 5 then (if cn = 1 ∧ sign = nm then gl_E zz dg lt sg p else 0) else if p < zz ∧ lt = sign then gl_b 1 else 0
/-- what is asked of the state behind run -/
def gl_Q (cn zz : Nat) (a1 a2 a3 a4 : Nat → Int32) (q : Nat) (E : Int32) (u : St2) : Prop := match u with
  | (c, z, _o, b1, b2, b3, b4, _b5, _b6, _b7, b8, _b9) => c = nI cn ∧ z = nI zz ∧ b1 = a1 ∧ b2 = a2 ∧ b3 = a3 ∧ b4 = a4 ∧ b8 q = E
theorem gl_done {cn zz q n : Nat} {E : Int32} {a1 a2 a3 a4 a5 a6 a7 a8 a9 : Nat → Int32} (h6 : gl_nil 608 a6) (h8 : a8 q = E) : gl_gd (gl_Q cn zz a1 a2 a3 a4 q E) n (nI cn, nI zz, 0, a1, a2, a3, a4, a5, a6, a7, a8, a9) :=
  gl_gd_fin ⟨rfl, h6, rfl, rfl, rfl, rfl, rfl, rfl, h8⟩
section
variable {cn zz nm dg lt : Nat} {sg : Nat → Nat} {o : Int32} {a1 a2 a3 a4 a5 a6 a7 a8 a9 : Nat → Int32}
/-- the name itself behind its letter: nothing more is found -/
theorem gl_ph2 {q : Nat} {E : Int32} (K : gl_K cn zz nm dg lt sg a1 a2 a3 a4) (hg : 1 ≤ dg) (hs : 5 ≤ sg 0) (ho : o = 1) (h6 : gl_one a6 ((9 * nm + 1) * 9 + 1)) (h8 : gl_nil 45 a8) (hq : q < 45) (hE : 0 = E) : gl_gd (gl_Q cn zz a1 a2 a3 a4 q E) 1 (nI cn, nI zz, o, a1, a2, a3, a4, a5, a6, a7, a8, a9) := by
  obtain ⟨k1, k2, k3, k4, k5, k6, k7, k8, k9, k10⟩ := K
  refine Or.inr ⟨(9 * nm + 1) * 9 + 1, by omega, ho, h6, fun post hp b6 hb => ?_⟩
  rw [show ((9 * nm + 1) * 9 + 1) / 9 / 45 = 0 by omega, show ((9 * nm + 1) * 9 + 1) / 9 % 45 = 9 * nm + 1 by omega, show ((9 * nm + 1) * 9 + 1) % 9 = 1 by omega]
  exact gl_handle (sg := sg) (lab := 0) k1 k2 (by omega) k4 (by omega) (by omega) k8 k10 h8 (fun r => absurd r (by omega)) rfl rfl rfl
    (fun r => absurd r (by omega))
    (fun _ _ b7 b9 => hp _ (gl_done hb (by rw [h8 q hq]; exact hE)))
    (fun _ r => absurd r (by omega))
    (fun _ _ r => absurd r (by omega))
    (fun _ _ r => absurd r (by omega))
/-- behind the letter -/
theorem gl_ph1 {E : Int32} (K : gl_K cn zz nm dg lt sg a1 a2 a3 a4) (hg : 1 ≤ dg) (hs : 5 ≤ sg 0) (ho : o = 1) (h6 : gl_one a6 ((45 + 9 * nm) * 9 + 1)) (h7 : gl_nil 3060 a7) (h8 : gl_nil 45 a8) (hE1 : dg = 1 → gl_b 1 = E) (hE2 : dg ≠ 1 → 0 = E) : gl_gd (gl_Q cn zz a1 a2 a3 a4 (9 * nm) E) 2 (nI cn, nI zz, o, a1, a2, a3, a4, a5, a6, a7, a8, a9) := by
  have K' := K
  obtain ⟨k1, k2, k3, k4, k5, k6, k7, k8, k9, k10⟩ := K
  refine Or.inr ⟨(45 + 9 * nm) * 9 + 1, by omega, ho, h6, fun post hp b6 hb => ?_⟩
  rw [show ((45 + 9 * nm) * 9 + 1) / 9 / 45 = 1 by omega, show ((45 + 9 * nm) * 9 + 1) / 9 % 45 = 9 * nm by omega, show ((45 + 9 * nm) * 9 + 1) % 9 = 1 by omega]
  refine gl_handle (sg := sg) (lab := 1) k1 k2 (by omega) k4 (by omega) (by omega) k8 k10 h8 (fun _ => h7) rfl rfl rfl
    (fun r => hp _ (gl_done hb (by rw [pk_us]; exact hE1 r.symm)))
    (fun r _ b7 b9 => hp _ (gl_done hb (by rw [h8 _ (by omega)]; exact hE2 (by omega))))
    (fun r s _ _ e b5 b7 b9 => hp _ (gl_ph2 K' hg hs (by decide) ?_ h8 (by omega) (hE2 (by omega))))
    (fun _ _ r => absurd r (by omega))
    (fun _ _ r => absurd r (by omega))
  rw [k7] at e
  have e' : nm = sg 1 := (nI_eq (by omega) (by omega)).mp e
  rw [← e']
  exact gl_set hb (by omega)
/-- the rule begins -/
theorem gl_ph0 {p : Nat} (K : gl_K cn zz nm dg lt sg a1 a2 a3 a4) (hp' : p ≤ 1) (ho : o = 1) (h5 : gl_one a5 ((9 * nm + p) * 9 + p)) (h6 : gl_one a6 ((9 * nm + p) * 9 + p)) (h7 : gl_nil 3060 a7) (h8 : gl_nil 45 a8) (h9 : ¬ a9 (9 * nm + p) = 0) : gl_gd (gl_Q cn zz a1 a2 a3 a4 (9 * nm + p) (gl_E zz dg lt sg p)) 3 (nI cn, nI zz, o, a1, a2, a3, a4, a5, a6, a7, a8, a9) := by
  have K' := K
  obtain ⟨k1, k2, k3, k4, k5, k6, k7, k8, k9, k10⟩ := K
  refine Or.inr ⟨(9 * nm + p) * 9 + p, by omega, ho, h6, fun post hp b6 hb => ?_⟩
  rw [show ((9 * nm + p) * 9 + p) / 9 = 9 * nm + p by omega, show (9 * nm + p) / 45 = 0 by omega, show (9 * nm + p) % 45 = 9 * nm + p by omega, show ((9 * nm + p) * 9 + p) % 9 = p by omega]
  have hlt : p < zz → a4 p = nI (sg 0) → sg 0 < 8 → sg 0 = lt := by
    intro q1 q2 q3
    have q4 : p = 0 := by omega
    rw [q4, k9] at q2
    exact ((nI_eq (by omega) (by omega)).mp q2).symm
  refine gl_handle (sg := sg) (lab := 0) k1 k2 (by omega) k4 (by omega) hp' k8 k10 h8 (fun _ => h7) rfl rfl rfl
    (fun r => hp _ (gl_done hb (by rw [pk_us, gl_E, if_pos r.symm])))
    (fun r s b7 b9 => hp _ (gl_done hb ?_))
    (fun r s t _ e => ?_)
    (fun r s t e _ => hp _ ?_)
    (fun r s t e w => ?_)
  · rw [h8 _ (by omega), gl_E, if_neg (by omega), if_neg]
    intro hh
    rcases s with s | s
    · have := k6 (by omega)
      omega
    · refine s ⟨hh.2.1, ?_⟩
      have q4 : p = 0 := by omega
      rw [q4, k9, hh.2.2]
  · rw [k7] at e
    have e' : nm = sg 0 := (nI_eq (by omega) (by omega)).mp e
    rw [← e'] at t
    exact absurd t h9
  · have q4 : p = 0 := by omega
    subst q4
    have e' := hlt t e (k10 0 r).2
    refine gl_ph1 K' r s (by decide) (gl_set hb (by omega)) h7 h8 (fun q => ?_) (fun q => ?_)
    · rw [gl_E, if_neg (by omega), if_pos ⟨q, t, e'⟩]
    · rw [gl_E, if_neg (by omega), if_neg (fun hh => q hh.1)]
  · exact absurd (gl_off h5 (by omega) (by omega) (by omega)) w
theorem gl_ends {post : Int32 → St2 → Prop} {sign i : Nat} (K : gl_K cn zz nm dg lt sg a1 a2 a3 a4) (hs : sign < 8) (hi : i ≤ zz) (H : ∀ (o : Int32) (a5 a6 a7 a8 a9 : Nat → Int32), post (gl_En cn zz nm dg lt sg sign i) (nI cn, nI zz, o, a1, a2, a3, a4, a5, a6, a7, a8, a9)) : wpX_endsOf post (nI cn, nI zz, o, a1, a2, a3, a4, a5, a6, a7, a8, a9) (nI sign) (nI i) := by
  have K' := K
  obtain ⟨k1, k2, k3, k4, k5, k6, k7, k8, k9, k10⟩ := K
  refine pk_lt sign 5 (fun h => ?_) (fun h => ?_)
  · refine gl_start (fun b5 b6 b7 b8 b9 h5 h6 h7 h8 h9 => ?_)
    have e9 : 9 * nI sign + nI i = nI (9 * sign + i) := by
      rw [← nI_add, ← pk_mul]
      rfl
    show wpX_call _ (nI cn, nI zz, 0, a1, a2, a3, a4, b5, b6, b7, b8, b9) (9 * nI sign + nI i)
    rw [e9]
    have fin : ∀ (E : Int32), gl_En cn zz nm dg lt sg sign i = E → ∀ u, gl_fin (gl_Q cn zz a1 a2 a3 a4 (9 * sign + i) E) u → (match u with | (c, z, o, d1, d2, d3, d4, a5, a6, a7, a8, a9) => (vp_in (nI (9 * sign + i)) 45 ∧ (post (a8 (nI (9 * sign + i)).toNatClampNeg) (c, z, o, d1, d2, d3, d4, a5, a6, a7, a8, a9)))) := by
      rintro E hE ⟨c, z, o, d1, d2, d3, d4, a5, a6, a7, a8, a9⟩ g
      obtain ⟨_, _, rfl, rfl, rfl, rfl, rfl, rfl, e⟩ := g
      refine ⟨pk_in (9 * sign + i) 45 (by omega), ?_⟩
      rw [nI_clamp (show 9 * sign + i < 2 ^ 31 by omega), e, ← hE]
      exact H _ _ _ _ _ _
    refine gl_call (d := (9 * sign + i) * 9 + i) k1 (by omega) (by omega) (fun r => absurd (h9 _ (by omega)) r) (fun _ r => ?_) (fun r1 r2 r3 r4 => ?_) (fun r1 r2 r3 r4 => absurd (gl_off0 h5 (by omega)) r4)
    · refine gl_run (n := 0) (Q := gl_Q cn zz a1 a2 a3 a4 (9 * sign + i) 0) (by omega) (gl_done h6 (h8 _ (by omega))) (fin 0 ?_)
      rw [gl_En, if_pos h, if_neg]
      rintro ⟨q1, q2⟩
      refine r ⟨q1, ?_⟩
      rw [k7, q2, show (9 * nm + i) / 9 = nm by omega]
    · rw [k7, show (9 * sign + i) / 9 = sign by omega] at r3
      have e : nm = sign := (nI_eq (by omega) (by omega)).mp r3
      subst e
      refine gl_run (n := 3) (Q := gl_Q cn zz a1 a2 a3 a4 (9 * nm + i) (gl_E zz dg lt sg i)) (by omega) (gl_ph0 K' (by omega) (by decide) (gl_set h5 (by omega)) (gl_set h6 (by omega)) h7 h8 ?_) (fin _ ?_)
      · rw [pk_us]
        decide
      · rw [gl_En, if_pos h, if_pos ⟨r2, rfl⟩]
  · refine pk_le zz i (fun t => ?_) (fun t => ⟨pk_in i 9 (by omega), ?_⟩)
    · have := H o a5 a6 a7 a8 a9
      rw [gl_En, if_neg (by omega), if_neg (by omega)] at this
      exact this
    · have hi0 : i = 0 := by omega
      subst hi0
      have h0 := H o a5 a6 a7 a8 a9
      rw [gl_En, if_neg (by omega)] at h0
      rw [show (nI 0).toNatClampNeg = 0 from rfl, k9]
      refine pk_eq lt sign (fun e => ?_) (fun e => ?_)
      · rw [if_pos ⟨t, e⟩] at h0
        exact h0
      · rw [if_neg (fun w => e w.2)] at h0
        exact h0
end
end
section
/-! ===== the methods that ask: empty, fits, accepts, ruleFits ===== -/
def gl_nn (cn dg : Nat) : Nat := if cn = 1 ∧ dg = 0 then 1 else 0
def gl_on (cn zz dg lt : Nat) (sg : Nat → Nat) : Nat := if cn = 1 ∧ zz = 1 ∧ dg = 1 ∧ sg 0 = lt then 1 else 0
theorem gl_nn0 {cn dg : Nat} (h : ¬ cn = 1) : gl_nn cn dg = 0 := if_neg (fun w => h w.1)
theorem gl_on0 {cn zz dg lt : Nat} {sg : Nat → Nat} (h : ¬ cn = 1) : gl_on cn zz dg lt sg = 0 := if_neg (fun w => h w.1)
theorem gl_bit : ∀ p, p < 2 → ∀ j, j < 2 → ((gl_b p >>> (nI j &&& 31)) &&& 1) = nI (if p = j then 1 else 0) := by decide +kernel
/-- the name's ends from 0, at j -/
theorem gl_bit0 {cn zz nm dg lt sign j : Nat} {sg : Nat → Nat} (hs : sign < 5) (hz : zz ≤ 1) (hj : j ≤ zz) : ((gl_En cn zz nm dg lt sg sign 0 >>> (nI j &&& 31)) &&& 1) = nI (if sign = nm then (if j = 0 then gl_nn cn dg else gl_on cn zz dg lt sg) else 0) := by
  rw [gl_En, if_pos hs]
  by_cases h1 : cn = 1 ∧ sign = nm
  · rw [if_pos h1, if_pos h1.2, gl_E]
    by_cases h2 : dg = 0
    · rw [if_pos h2, gl_bit 0 (by omega) j (by omega)]
      by_cases h3 : j = 0
      · rw [if_pos h3.symm, if_pos h3, gl_nn, if_pos ⟨h1.1, h2⟩]
      · rw [if_neg (by omega), if_neg h3, gl_on, if_neg (by omega)]
    · rw [if_neg h2]
      by_cases h3 : dg = 1 ∧ 0 < zz ∧ sg 0 = lt
      · rw [if_pos h3, gl_bit 1 (by omega) j (by omega)]
        by_cases h4 : j = 0
        · rw [if_neg (by omega), if_pos h4, gl_nn, if_neg (by omega)]
        · rw [if_pos (by omega), if_neg h4, gl_on, if_pos ⟨h1.1, by omega, h3.1, h3.2.2⟩]
      · rw [if_neg h3, gl_z_shr0]
        by_cases h4 : j = 0
        · rw [if_pos h4, gl_nn, if_neg (by omega)]
          rfl
        · rw [if_neg h4, gl_on, if_neg (show ¬ (cn = 1 ∧ zz = 1 ∧ dg = 1 ∧ sg 0 = lt) from fun w => h3 ⟨w.2.2.1, by omega, w.2.2.2⟩)]
          rfl
  · rw [if_neg h1, gl_z_shr0]
    by_cases h2 : sign = nm
    · have h3 : ¬ cn = 1 := fun w => h1 ⟨w, h2⟩
      rw [if_pos h2, gl_nn0 h3, gl_on0 h3, ite_self]
      rfl
    · rw [if_neg h2]
      rfl
/-- a letter's ends -/
theorem gl_bit5 {cn zz nm dg lt sign j : Nat} {sg : Nat → Nat} (hs : 5 ≤ sign) (hz : zz ≤ 1) (hj : j ≤ zz) : ((gl_En cn zz nm dg lt sg sign 0 >>> (nI j &&& 31)) &&& 1) = nI (if j = 1 ∧ sign = lt then 1 else 0) := by
  rw [gl_En, if_neg (by omega)]
  by_cases h1 : 0 < zz ∧ lt = sign
  · rw [if_pos h1, gl_bit 1 (by omega) j (by omega)]
    by_cases h2 : j = 1
    · rw [if_pos h2.symm, if_pos ⟨h2, h1.2.symm⟩]
    · rw [if_neg (by omega), if_neg (by omega)]
  · rw [if_neg h1, gl_z_shr0, if_neg (fun w => h1 ⟨by omega, w.2.symm⟩)]
    rfl
/-- the name's ends from the text's end on, there -/
theorem gl_bitz {cn zz nm dg lt sign : Nat} {sg : Nat → Nat} (hs : sign < 5) (hz : zz ≤ 1) (hn : cn = 1 → sign = nm) : ((gl_En cn zz nm dg lt sg sign zz >>> (nI zz &&& 31)) &&& 1) = nI (gl_nn cn dg) := by
  rw [gl_En, if_pos hs, gl_nn]
  by_cases h1 : cn = 1
  · rw [if_pos ⟨h1, hn h1⟩, gl_E]
    by_cases h2 : dg = 0
    · rw [if_pos h2, if_pos ⟨h1, h2⟩, gl_bit zz (by omega) zz (by omega), if_pos rfl]
    · rw [if_neg h2, if_neg (by omega), gl_z_shr0, if_neg (by omega)]
      rfl
  · rw [if_neg (fun w => h1 w.1), gl_z_shr0, if_neg (fun w => h1 w.1)]
    rfl
section
variable {cn zz nm dg lt : Nat} {sg : Nat → Nat} {o : Int32} {a1 a2 a3 a4 a5 a6 a7 a8 a9 : Nat → Int32} {post : Int32 → St2 → Prop}
theorem gl_empty1 {name : Nat} (K : gl_K cn zz nm dg lt sg a1 a2 a3 a4) (hs : name < 5) (hn : cn = 1 → name = nm) (H : ∀ (o : Int32) (a5 a6 a7 a8 a9 : Nat → Int32), post (nI (gl_nn cn dg)) (nI cn, nI zz, o, a1, a2, a3, a4, a5, a6, a7, a8, a9)) : wpX_empty post (nI cn, nI zz, o, a1, a2, a3, a4, a5, a6, a7, a8, a9) (nI name) := by
  have hz := K.2.1
  refine pk_lt name 0 (fun h => absurd h (by omega)) (fun _ => pk_le 5 name (fun h => absurd h (by omega)) (fun _ => br_f (by decide) ?_))
  refine gl_ends K (by omega) (by omega) (fun o a5 a6 a7 a8 a9 => ?_)
  have h := H o a5 a6 a7 a8 a9
  rw [← gl_bitz (sg := sg) (lt := lt) hs hz hn] at h
  exact h
theorem gl_empty0 {x : Int32} (h : x < 0 ∨ nI 5 ≤ x) (H : post (-1) (nI cn, nI zz, o, a1, a2, a3, a4, a5, a6, a7, a8, a9)) : wpX_empty post (nI cn, nI zz, o, a1, a2, a3, a4, a5, a6, a7, a8, a9) x := by
  rcases h with h | h
  · exact br_t h (br_t rfl H)
  · exact br_f (gl_big (by omega) h).1 (br_t h (br_t rfl H))
theorem gl_fits0 {x y : Int32} (h : x < 0 ∨ nI 8 ≤ x) (H : post (-1) (nI cn, nI zz, o, a1, a2, a3, a4, a5, a6, a7, a8, a9)) : wpX_fits post (nI cn, nI zz, o, a1, a2, a3, a4, a5, a6, a7, a8, a9) x 0 y := by
  rcases h with h | h
  · exact br_t h (br_t rfl H)
  · exact br_f (gl_big (by omega) h).1 (br_t ((gl_big (by omega) h).2.2 7 (by omega)) (br_t rfl H))
theorem gl_fits1 {sign : Nat} {y : Int32} (hs : sign < 8) (hz : zz ≤ 1) (h : y < 0 ∨ nI (zz + 1) ≤ y) (H : post (-2) (nI cn, nI zz, o, a1, a2, a3, a4, a5, a6, a7, a8, a9)) : wpX_fits post (nI cn, nI zz, o, a1, a2, a3, a4, a5, a6, a7, a8, a9) (nI sign) 0 y := by
  refine pk_lt sign 0 (fun h => absurd h (by omega)) (fun _ => pk_lt 7 sign (fun h => absurd h (by omega)) (fun _ => br_f (by decide) ?_))
  refine br_f (by decide) ?_
  rcases h with h | h
  · exact br_t h (br_t rfl H)
  · exact br_f (gl_big (by omega) h).1 (br_t ((gl_big (by omega) h).2.2 zz (by omega)) (br_t rfl H))
theorem gl_fits2 {sign j r : Nat} (K : gl_K cn zz nm dg lt sg a1 a2 a3 a4) (hs : sign < 8) (hj : j ≤ zz) (hr : ((gl_En cn zz nm dg lt sg sign 0 >>> (nI j &&& 31)) &&& 1) = nI r) (H : ∀ (o : Int32) (a5 a6 a7 a8 a9 : Nat → Int32), post (nI r) (nI cn, nI zz, o, a1, a2, a3, a4, a5, a6, a7, a8, a9)) : wpX_fits post (nI cn, nI zz, o, a1, a2, a3, a4, a5, a6, a7, a8, a9) (nI sign) 0 (nI j) := by
  have hz := K.2.1
  refine pk_lt sign 0 (fun h => absurd h (by omega)) (fun _ => pk_lt 7 sign (fun h => absurd h (by omega)) (fun _ => br_f (by decide) ?_))
  refine br_f (by decide) (pk_lt j 0 (fun h => absurd h (by omega)) (fun _ => pk_lt zz j (fun h => absurd h (by omega)) (fun _ => br_f (by decide) ?_)))
  refine gl_ends (i := 0) K hs (by omega) (fun o a5 a6 a7 a8 a9 => ?_)
  have h := H o a5 a6 a7 a8 a9
  rw [← hr] at h
  exact h
theorem gl_accepts (K : gl_K cn zz nm dg lt sg a1 a2 a3 a4) (H : ∀ (o : Int32) (a5 a6 a7 a8 a9 : Nat → Int32), post (nI (if 0 = nm then (if zz = 0 then gl_nn cn dg else gl_on cn zz dg lt sg) else 0)) (nI cn, nI zz, o, a1, a2, a3, a4, a5, a6, a7, a8, a9)) : wpX_accepts post (nI cn, nI zz, o, a1, a2, a3, a4, a5, a6, a7, a8, a9) := by
  have hz := K.2.1
  unfold wpX_accepts
  refine gl_ends (sign := 0) (i := 0) K (by omega) (by omega) (fun o a5 a6 a7 a8 a9 => ?_)
  have h := H o a5 a6 a7 a8 a9
  rw [← gl_bit0 (sg := sg) (lt := lt) (by omega) hz (Nat.le_refl zz)] at h
  exact h
end
/-! doesFit: what has been reached behind k signs -/
def gl_re (zz lt : Nat) (sg : Nat → Nat) (k : Nat) : Int32 := if k = 0 then gl_b 0 else if k = 1 ∧ zz = 1 ∧ sg 0 = lt then gl_b 1 else 0
theorem gl_tb : ∀ p, p < 2 → ∀ j, j < 2 → (((gl_b p >>> (nI j &&& 31)) &&& 1) = 1 ↔ p = j) := by decide +kernel
section
variable {cn zz nm dg lt : Nat} {sg : Nat → Nat} {o : Int32} {a1 a2 a3 a4 a5 a6 a7 a8 a9 : Nat → Int32} {post : Int32 → St2 → Prop} {J : Int32 → Int32 → Int32 → Int32 → Int32 → (Nat → Int32) → (Nat → Int32) → (Nat → Int32) → (Nat → Int32) → (Nat → Int32) → (Nat → Int32) → (Nat → Int32) → (Nat → Int32) → (Nat → Int32) → Prop}
/-- nothing is reached: nothing is reached -/
theorem gl_df_0 {x5 : Int32} {k : Nat} (hz : zz ≤ 1) (e5 : x5 = nI k) (H : J 0 (nI (k + 1)) (nI cn) (nI zz) o a1 a2 a3 a4 a5 a6 a7 a8 a9) : ∃ n, wX_doesFit_25 post J 0 0 (nI zz) 0 x5 n 0 0 (nI cn) (nI zz) o a1 a2 a3 a4 a5 a6 a7 a8 a9 := by
  subst e5
  refine ⟨1 + 1 + 1, pk_lt zz 0 (fun h => absurd h (by omega)) (fun _ => br_f (gl_z_shr _) (nm_r (nI_1 0) ?_))⟩
  refine pk_lt zz 1 (fun _ => nm_r (nI_1 k) H) (fun _ => br_f (gl_z_shr _) (nm_r (nI_1 1) ?_))
  exact pk_lt zz 2 (fun _ => nm_r (nI_1 k) H) (fun h => absurd h (by omega))
theorem gl_df25 {k : Nat} (K : gl_K cn zz nm dg lt sg a1 a2 a3 a4) (hk : k < dg) (H : ∀ (o : Int32) (a5 a6 a7 a8 a9 : Nat → Int32), J (gl_re zz lt sg (k + 1)) (nI (k + 1)) (nI cn) (nI zz) o a1 a2 a3 a4 a5 a6 a7 a8 a9) : ∃ n, wX_doesFit_25 post J 0 0 (nI zz) (gl_re zz lt sg k) (nI k) n 0 0 (nI cn) (nI zz) o a1 a2 a3 a4 a5 a6 a7 a8 a9 := by
  have K' := K
  obtain ⟨k1, k2, k3, k4, k5, k6, k7, k8, k9, k10⟩ := K
  have e36 : (3 : Int32) * 0 + nI k = nI k := by
    rw [show (3 : Int32) * 0 = nI 0 from rfl, nI_add, Nat.zero_add]
  obtain ⟨e2, h2⟩ := k10 k hk
  by_cases h0 : k = 0
  · subst h0
    have r0 : gl_re zz lt sg 0 = gl_b 0 := if_pos rfl
    have r1 : (0 : Int32) ||| gl_En cn zz nm dg lt sg (sg 0) 0 = gl_re zz lt sg (0 + 1) := by
      rw [Int32.zero_or, gl_En, gl_E, gl_re, if_neg (show ¬ 0 + 1 = 0 by omega), if_neg (show ¬ dg = 0 by omega)]
      by_cases h1 : zz = 1 ∧ sg 0 = lt
      · have := k6 h1.1
        rw [if_neg (by omega), if_pos ⟨by omega, h1.2.symm⟩, if_pos ⟨rfl, h1⟩]
      · rw [if_neg (show ¬ (0 + 1 = 1 ∧ zz = 1 ∧ sg 0 = lt) from fun w => h1 w.2), if_neg (show ¬ (dg = 1 ∧ 0 < zz ∧ sg 0 = lt) from fun w => h1 ⟨by omega, w.2.2⟩), if_neg (show ¬ (0 < zz ∧ lt = sg 0) from fun w => h1 ⟨by omega, w.2.symm⟩), ite_self, ite_self]
    rw [r0]
    refine ⟨1 + 1 + 1, pk_lt zz 0 (fun h => absurd h (by omega)) (fun _ => br_t ((gl_tb 0 (by omega) 0 (by omega)).mpr rfl) ⟨pk_in 0 36 (by decide), ?_⟩)⟩
    rw [e36, nI_clamp (show 0 < 2 ^ 31 by decide), e2]
    refine gl_ends (i := 0) K' h2 (by omega) (fun o a5 a6 a7 a8 a9 => nm_r r1 (nm_r (nI_1 0) ?_))
    refine pk_lt zz 1 (fun _ => nm_r (nI_1 0) (H o a5 a6 a7 a8 a9)) (fun _ => br_f (fun w => absurd ((gl_tb 0 (by omega) 1 (by omega)).mp w) (by decide)) (nm_r (nI_1 1) ?_))
    exact pk_lt zz 2 (fun _ => nm_r (nI_1 0) (H o a5 a6 a7 a8 a9)) (fun h => absurd h (by omega))
  · have r2 : gl_re zz lt sg (k + 1) = 0 := by
      rw [gl_re, if_neg (by omega), if_neg (by omega)]
    rw [r2] at H
    by_cases h1 : k = 1 ∧ zz = 1 ∧ sg 0 = lt
    · obtain ⟨q1, q2, q3⟩ := h1
      subst q1 q2
      have r1 : gl_re 1 lt sg 1 = gl_b 1 := by
        rw [gl_re, if_neg (by omega), if_pos ⟨rfl, rfl, q3⟩]
      have r3 : (0 : Int32) ||| gl_En cn 1 nm dg lt sg (sg 1) 1 = 0 := by
        rw [Int32.zero_or, gl_En, gl_E, if_neg (show ¬ dg = 0 by omega), if_neg (show ¬ (dg = 1 ∧ 1 < 1 ∧ sg 0 = lt) by omega), if_neg (show ¬ (1 < 1 ∧ lt = sg 1) by omega), ite_self, ite_self]
      rw [r1]
      refine ⟨1 + 1 + 1, pk_lt 1 0 (fun h => absurd h (by omega)) (fun _ => br_f (fun w => absurd ((gl_tb 1 (by omega) 0 (by omega)).mp w) (by decide)) (nm_r (nI_1 0) ?_))⟩
      refine pk_lt 1 1 (fun h => absurd h (by omega)) (fun _ => br_t ((gl_tb 1 (by omega) 1 (by omega)).mpr rfl) ⟨pk_in 1 36 (by decide), ?_⟩)
      rw [e36, nI_clamp (show 1 < 2 ^ 31 by decide), e2]
      refine gl_ends (i := 1) K' h2 (by omega) (fun o a5 a6 a7 a8 a9 => nm_r r3 (nm_r (nI_1 1) ?_))
      exact pk_lt 1 2 (fun _ => nm_r (nI_1 1) (H o a5 a6 a7 a8 a9)) (fun h => absurd h (by omega))
    · have r1 : gl_re zz lt sg k = 0 := by
        rw [gl_re, if_neg h0, if_neg h1]
      rw [r1]
      exact gl_df_0 k2 rfl (H o a5 a6 a7 a8 a9)
end
section
variable {cn zz nm dg lt : Nat} {sg : Nat → Nat} {a1 a2 a3 a4 : Nat → Int32} {post : Int32 → St2 → Prop}
theorem gl_df8 (K : gl_K cn zz nm dg lt sg a1 a2 a3 a4) (H : ∀ (o : Int32) (a5 a6 a7 a8 a9 : Nat → Int32), post (nI (if zz = 0 then gl_nn 1 dg else gl_on 1 zz dg lt sg)) (nI cn, nI zz, o, a1, a2, a3, a4, a5, a6, a7, a8, a9)) : ∀ (j k : Nat) (o : Int32) (a5 a6 a7 a8 a9 : Nat → Int32), k + j = dg → wX_doesFit_8 post 0 0 (nI zz) (j + 1) (gl_re zz lt sg k) (nI k) (nI cn) (nI zz) o a1 a2 a3 a4 a5 a6 a7 a8 a9 := by
  have K' := K
  obtain ⟨k1, k2, k3, k4, k5, k6, k7, k8, k9, k10⟩ := K
  intro j
  induction j with
  | zero =>
    intro k o a5 a6 a7 a8 a9 hk
    have hk' : k = dg := by omega
    subst hk'
    refine ⟨pk_in 0 12 (by decide), pk_le k k (fun _ => ?_) (fun h => absurd h (by omega)) (by exact k8)⟩
    have h := H o a5 a6 a7 a8 a9
    by_cases h0 : k = 0
    · have r : gl_re zz lt sg k = gl_b 0 := if_pos h0
      rw [r]
      by_cases hz : zz = 0
      · rw [if_pos hz, gl_nn, if_pos ⟨rfl, h0⟩] at h
        exact br_t ((gl_tb 0 (by omega) zz (by omega)).mpr hz.symm) h
      · rw [if_neg hz, gl_on, if_neg (by omega)] at h
        exact br_f (fun w => hz ((gl_tb 0 (by omega) zz (by omega)).mp w).symm) h
    · by_cases h1 : k = 1 ∧ zz = 1 ∧ sg 0 = lt
      · have r : gl_re zz lt sg k = gl_b 1 := by
          rw [gl_re, if_neg h0, if_pos h1]
        rw [r]
        rw [if_neg (by omega), gl_on, if_pos ⟨rfl, h1.2.1, h1.1, h1.2.2⟩] at h
        exact br_t ((gl_tb 1 (by omega) zz (by omega)).mpr h1.2.1.symm) h
      · have r : gl_re zz lt sg k = 0 := by
          rw [gl_re, if_neg h0, if_neg h1]
        rw [r]
        rw [gl_nn, if_neg (show ¬ (1 = 1 ∧ k = 0) by omega), gl_on, if_neg (show ¬ (1 = 1 ∧ zz = 1 ∧ k = 1 ∧ sg 0 = lt) from fun w => h1 ⟨w.2.2.1, w.2.1, w.2.2.2⟩), ite_self] at h
        exact br_f (gl_z_shr _) h
  | succ j ih =>
    intro k o a5 a6 a7 a8 a9 hk
    refine ⟨pk_in 0 12 (by decide), pk_le dg k (fun h => absurd h (by omega)) (fun _ => ?_) (by exact k8)⟩
    exact gl_df25 K' (by omega) (fun o a5 a6 a7 a8 a9 => ih (k + 1) o a5 a6 a7 a8 a9 (by omega))
theorem gl_doesFit {o : Int32} {a5 a6 a7 a8 a9 : Nat → Int32} (K : gl_K cn zz nm dg lt sg a1 a2 a3 a4) (H : ∀ (o : Int32) (a5 a6 a7 a8 a9 : Nat → Int32), post (nI (if zz = 0 then gl_nn 1 dg else gl_on 1 zz dg lt sg)) (nI cn, nI zz, o, a1, a2, a3, a4, a5, a6, a7, a8, a9)) : wpX_doesFit post (nI cn, nI zz, o, a1, a2, a3, a4, a5, a6, a7, a8, a9) 0 0 (nI zz) :=
  nm_r (e' := gl_re zz lt sg 0) rfl ⟨dg + 1, gl_df8 K H dg 0 o a5 a6 a7 a8 a9 (by omega)⟩
theorem gl_ruleFits1 {o : Int32} {a5 a6 a7 a8 a9 : Nat → Int32} (K : gl_K 1 zz nm dg lt sg a1 a2 a3 a4) (H : ∀ (o : Int32) (a5 a6 a7 a8 a9 : Nat → Int32), post (nI (if zz = 0 then gl_nn 1 dg else gl_on 1 zz dg lt sg)) (nI 1, nI zz, o, a1, a2, a3, a4, a5, a6, a7, a8, a9)) : wpX_ruleFits post (nI 1, nI zz, o, a1, a2, a3, a4, a5, a6, a7, a8, a9) 0 0 (nI zz) := by
  have hz := K.2.1
  refine br_f (by decide) (br_f (by decide) (br_f (by decide) ?_))
  refine br_f (by decide) (pk_lt zz 0 (fun h => absurd h (by omega)) (fun _ => pk_lt zz zz (fun h => absurd h (by omega)) (fun _ => br_f (by decide) ?_)))
  refine gl_doesFit K (fun o a5 a6 a7 a8 a9 => ?_)
  have h := H o a5 a6 a7 a8 a9
  have hb : (if zz = 0 then gl_nn 1 dg else gl_on 1 zz dg lt sg) = 0 ∨ (if zz = 0 then gl_nn 1 dg else gl_on 1 zz dg lt sg) = 1 := by
    rw [gl_nn, gl_on]
    repeat' split
    all_goals first | exact Or.inl rfl | exact Or.inr rfl
  rcases hb with hb | hb
  · rw [hb] at h ⊢
    exact br_t rfl h
  · rw [hb] at h ⊢
    exact br_f (by decide) h
theorem gl_ruleFits0 {o : Int32} {a5 a6 a7 a8 a9 : Nat → Int32} {y : Int32} (H : post (-1) (nI 0, nI zz, o, a1, a2, a3, a4, a5, a6, a7, a8, a9)) : wpX_ruleFits post (nI 0, nI zz, o, a1, a2, a3, a4, a5, a6, a7, a8, a9) 0 0 y :=
  br_f (by decide) (br_t (by decide) (br_t rfl H))
end
end
section
/-! ===== rule and push ===== -/
def gl_dg (R : Nat) : Nat := if R = 0 then 0 else if R < 9 then 1 else if R < 81 then 2 else 3
def gl_row (R : Nat) : Prop := R = 0 ∨ (0 < R % 9 ∧ (R < 9 ∨ 0 < R / 9 % 9))
theorem gl_rs {post : Int32 → Prop} {n d R : Nat} (hR : R < 2 ^ 31) (h0 : R = 0 → post (nI d)) (h1 : 0 < R → R % 9 = 0 → post (-1)) (h2 : 0 < R → R % 9 ≠ 0 → wX_rowSize_17 post n (nI (d + 1)) (nI (R / 9))) : wX_rowSize_17 post (n + 1) (nI d) (nI R) := by
  refine pk_le R 0 (fun h => h0 (by omega)) (fun h => ⟨by decide, ?_⟩)
  rw [gl_r9 hR]
  exact pk_eq (R % 9) 0 (fun e => h1 h e) (fun e => nm_r (nI_1 d) ⟨by decide, nm_r (gl_d9 hR) (h2 h e)⟩)
theorem gl_rowSize {post : Int32 → Prop} {R : Nat} (hR : R < 729) (H1 : gl_row R → post (nI (gl_dg R))) (H0 : ¬ gl_row R → post (-1)) : wpX_rowSize post () (nI R) := by
  refine pk_lt R 0 (fun h => absurd h (by omega)) (fun _ => pk_lt R 729 (fun _ => ⟨1 + 1 + 1 + 1, ?_⟩) (fun h => absurd h (by omega)))
  refine gl_rs (d := 0) (by omega) (fun e => ?_) (fun p e => H0 ?_) (fun p e => gl_rs (by omega) (fun e2 => ?_) (fun p2 e2 => H0 ?_) (fun p2 e2 => gl_rs (by omega) (fun e3 => ?_) (fun p3 e3 => absurd e3 (by omega)) (fun p3 e3 => gl_rs (by omega) (fun e4 => ?_) (fun p4 _ => absurd p4 (by omega)) (fun p4 _ => absurd p4 (by omega)))))
  · have h := H1 (Or.inl e)
    rw [gl_dg, if_pos e] at h
    exact h
  · unfold gl_row
    omega
  · have h := H1 (Or.inr ⟨by omega, by omega⟩)
    rw [gl_dg, if_neg (by omega), if_pos (by omega)] at h
    exact h
  · unfold gl_row
    omega
  · have h := H1 (Or.inr ⟨by omega, by omega⟩)
    rw [gl_dg, if_neg (by omega), if_neg (by omega), if_pos (by omega)] at h
    exact h
  · have h := H1 (Or.inr ⟨by omega, by omega⟩)
    rw [gl_dg, if_neg (by omega), if_neg (by omega), if_neg (by omega)] at h
    exact h
section
variable {z o : Int32} {a1 a2 a3 a4 a5 a6 a7 a8 a9 : Nat → Int32} {post : Int32 → St2 → Prop}
theorem gl_61e {n : Nat} {x4 : Int32} (H : post (nI 0) (nI 1, z, o, a1, a2, a3, a4, a5, a6, a7, a8, a9)) : wX_rule_61 post (nI 0) z o (n + 1) x4 (nI 0 + (-1)) a1 a2 a3 a4 a5 a6 a7 a8 a9 := by
  refine br_t (by decide) (nm_r (nI_1 0) ?_)
  rw [nI_pred]
  exact H
theorem gl_61 {n R k : Nat} (hR : R < 2 ^ 31) (h9 : 0 < R % 9) (hk : k < 36) (H : wX_rule_61 post (nI 0) z o n (nI (R / 9)) (nI k + (-1)) a1 (upd a2 k (nI (R % 9 - 1))) a3 a4 a5 a6 a7 a8 a9) : wX_rule_61 post (nI 0) z o (n + 1) (nI R) (nI k) a1 a2 a3 a4 a5 a6 a7 a8 a9 := by
  have e36 : (3 : Int32) * nI 0 + nI k = nI k := by
    rw [show (3 : Int32) * nI 0 = nI 0 from rfl, nI_add, Nat.zero_add]
  refine pk_lt k 0 (fun h => absurd h (by omega)) (fun _ => ⟨by decide, ?_⟩)
  rw [e36, nI_clamp (show k < 2 ^ 31 by omega), gl_r9 hR]
  refine ⟨pk_in k 36 hk, nm_r (e' := upd a2 k (nI (R % 9 - 1))) ?_ ⟨by decide, nm_r (gl_d9 hR) (nm_e H)⟩⟩
  rw [show (1 : Int32) = nI 1 from rfl, pk_sub (by omega)]
theorem gl_rule1 {name R : Nat} (hn : name < 5) (hR : R < 729) (hr : gl_row R) (H : ∀ (sg : Nat → Nat) (b2 : Nat → Int32), (∀ k, k < gl_dg R → b2 k = nI (sg k) ∧ sg k < 8) → (gl_dg R = 1 → sg 0 + 1 = R) → post (nI 0) (nI 1, z, o, upd a1 0 (nI name), b2, upd a3 0 (nI (gl_dg R)), a4, a5, a6, a7, a8, a9)) : wpX_rule post (nI 0, z, o, a1, a2, a3, a4, a5, a6, a7, a8, a9) (nI name) (nI R) := by
  refine pk_lt name 0 (fun h => absurd h (by omega)) (fun _ => pk_le 5 name (fun h => absurd h (by omega)) (fun _ => br_f (by decide) ?_))
  refine gl_rowSize hR (fun _ => ?_) (fun w => absurd hr w)
  have hdg : gl_dg R ≤ 3 := by
    unfold gl_dg
    repeat' split
    all_goals omega
  refine pk_le 0 (gl_dg R) (fun _ => br_f (by decide) ⟨pk_in 0 12 (by decide), nm_r (e' := upd a1 0 (nI name)) rfl ⟨pk_in 0 12 (by decide), nm_r (e' := upd a3 0 (nI (gl_dg R))) rfl ?_⟩⟩) (fun h => absurd h (by omega))
  by_cases h0 : R = 0
  · have e : gl_dg R = 0 := if_pos h0
    rw [e] at H ⊢
    refine nm_r (e' := nI 0 + (-1)) rfl ⟨0 + 1, gl_61e (H (fun _ => 0) a2 (fun k hk => absurd hk (by omega)) (fun q => absurd q (by omega)))⟩
  · have hr' : 0 < R % 9 := by
      rcases hr with hr | hr
      · exact absurd hr h0
      · exact hr.1
    by_cases h1 : R < 9
    · have e : gl_dg R = 1 := by
        rw [gl_dg, if_neg h0, if_pos h1]
      rw [e] at H ⊢
      refine nm_r (nI_pred 0) ⟨0 + 1 + 1, gl_61 (by omega) hr' (by omega) (gl_61e (H (fun _ => R % 9 - 1) _ (fun k hk => ⟨?_, by omega⟩) (fun _ => by omega)))⟩
      have : k = 0 := by omega
      subst this
      exact pk_us
    · have hr2 : 0 < R / 9 % 9 := by
        rcases hr with hr | hr
        · exact absurd hr h0
        · omega
      by_cases h2 : R < 81
      · have e : gl_dg R = 2 := by
          rw [gl_dg, if_neg h0, if_neg h1, if_pos h2]
        rw [e] at H ⊢
        refine nm_r (nI_pred 1) ⟨0 + 1 + 1 + 1, gl_61 (by omega) hr' (by omega) ?_⟩
        rw [pk_m1]
        refine gl_61 (by omega) hr2 (by omega) (gl_61e (H (fun k => if k = 0 then R / 9 % 9 - 1 else R % 9 - 1) _ (fun k hk => ?_) (fun q => absurd q (by omega))))
        by_cases q : k = 0
        · subst q
          refine ⟨pk_us, ?_⟩
          show R / 9 % 9 - 1 < 8
          omega
        · have q1 : k = 1 := by omega
          subst q1
          refine ⟨?_, ?_⟩
          · rw [pk_un (by decide), pk_us]
            rfl
          · show R % 9 - 1 < 8
            omega
      · have e : gl_dg R = 3 := by
          rw [gl_dg, if_neg h0, if_neg h1, if_neg h2]
        rw [e] at H ⊢
        refine nm_r (nI_pred 2) ⟨0 + 1 + 1 + 1 + 1, gl_61 (by omega) hr' (by omega) ?_⟩
        rw [pk_m1]
        refine gl_61 (by omega) hr2 (by omega) ?_
        rw [pk_m1]
        refine gl_61 (by omega) (by omega) (by omega) (gl_61e (H (fun k => if k = 0 then R / 9 / 9 % 9 - 1 else if k = 1 then R / 9 % 9 - 1 else R % 9 - 1) _ (fun k hk => ?_) (fun q => absurd q (by omega))))
        by_cases q : k = 0
        · subst q
          refine ⟨pk_us, ?_⟩
          show R / 9 / 9 % 9 - 1 < 8
          omega
        · by_cases q1 : k = 1
          · subst q1
            refine ⟨?_, ?_⟩
            · rw [pk_un (by decide), pk_us]
              rfl
            · show R / 9 % 9 - 1 < 8
              omega
          · have q2 : k = 2 := by omega
            subst q2
            refine ⟨?_, ?_⟩
            · rw [pk_un (by decide), pk_un (by decide), pk_us]
              rfl
            · show R % 9 - 1 < 8
              omega
theorem gl_rule0 {x y : Int32} (h : x < 0 ∨ nI 5 ≤ x) (H : post (-1) (nI 0, z, o, a1, a2, a3, a4, a5, a6, a7, a8, a9)) : wpX_rule post (nI 0, z, o, a1, a2, a3, a4, a5, a6, a7, a8, a9) x y := by
  rcases h with h | h
  · exact br_t h (br_t rfl H)
  · exact br_f (gl_big (by omega) h).1 (br_t h (br_t rfl H))
theorem gl_rule2 {name : Nat} {y : Int32} (hn : name < 5) (h : y < 0 ∨ nI 729 ≤ y ∨ ∃ R, R < 729 ∧ y = nI R ∧ ¬ gl_row R) (H : post (-2) (nI 0, z, o, a1, a2, a3, a4, a5, a6, a7, a8, a9)) : wpX_rule post (nI 0, z, o, a1, a2, a3, a4, a5, a6, a7, a8, a9) (nI name) y := by
  refine pk_lt name 0 (fun h => absurd h (by omega)) (fun _ => pk_le 5 name (fun h => absurd h (by omega)) (fun _ => br_f (by decide) ?_))
  rcases h with h | h | ⟨R, hR, rfl, hr⟩
  · exact br_t h (br_f (by decide) H)
  · exact br_f (gl_big (by omega) h).1 (br_f (gl_big (by omega) h).2.1 (br_f (by decide) H))
  · exact gl_rowSize hR (fun w => absurd w hr) (fun _ => br_f (by decide) H)
end
section
variable {c o : Int32} {a1 a2 a3 a4 a5 a6 a7 a8 a9 : Nat → Int32} {post : Int32 → St2 → Prop}
theorem gl_push1 {lt : Nat} (h5 : 5 ≤ lt) (h8 : lt < 8) (H : post (nI 1) (c, nI 1, o, a1, a2, a3, upd a4 0 (nI lt), a5, a6, a7, a8, a9)) : wpX_push post (c, nI 0, o, a1, a2, a3, a4, a5, a6, a7, a8, a9) (nI lt) :=
  pk_lt lt 5 (fun h => absurd h (by omega)) (fun _ => pk_le lt 7 (fun _ => br_f (by decide) ⟨pk_in 0 9 (by decide), nm_r (e' := upd a4 0 (nI lt)) rfl (nm_r (nI_1 0) H)⟩) (fun h => absurd h (by omega)))
theorem gl_push0 {x : Int32} (h : x < 5 ∨ (¬ x < 5 ∧ 7 < x)) (H : post (-1) (c, nI 0, o, a1, a2, a3, a4, a5, a6, a7, a8, a9)) : wpX_push post (c, nI 0, o, a1, a2, a3, a4, a5, a6, a7, a8, a9) x := by
  rcases h with h | h
  · exact br_t h H
  · exact br_f h.1 (br_f (fun w => absurd h.2 (Int32.not_lt.mpr w)) H)
end
theorem gl_letter (x : Int32) : (x < 5 ∨ (¬ x < 5 ∧ 7 < x)) ∨ ∃ lt, 5 ≤ lt ∧ lt < 8 ∧ x = nI lt := by
  by_cases h : x < 5
  · exact Or.inl (Or.inl h)
  · rcases pk_ix x (n := 8) (by omega) with q | q | ⟨j, hj, rfl⟩
    · refine absurd ?_ h
      rw [Int32.lt_iff_toInt_lt] at q ⊢
      have h0 : (0 : Int32).toInt = 0 := by decide
      have h5 : (5 : Int32).toInt = 5 := by decide
      omega
    · exact Or.inl (Or.inr ⟨h, (gl_big (by omega) q).2.2 7 (by omega)⟩)
    · refine Or.inr ⟨j, ?_, hj, rfl⟩
      rcases Nat.lt_or_ge j 5 with q | q
      · exact absurd (nI_lt q (by omega)) h
      · exact q
end
section
/-! ===== the law, from its end to its beginning ===== -/
theorem gl_flag {b : Nat} {A B : Prop} (h : b = 0 ∨ b = 1) (h0 : b = 0 → A) (h1 : b = 1 → B) : (nI b = 0 → A) ∧ (¬ nI b = 0 → B) := by
  rcases h with h | h
  · subst h
    exact br_t rfl (h0 rfl)
  · subst h
    exact br_f (by decide) (h1 rfl)
theorem gl_nn01 (cn dg : Nat) : gl_nn cn dg = 0 ∨ gl_nn cn dg = 1 := by
  unfold gl_nn
  split
  · exact Or.inr rfl
  · exact Or.inl rfl
theorem gl_on01 (cn zz dg lt : Nat) (sg : Nat → Nat) : gl_on cn zz dg lt sg = 0 ∨ gl_on cn zz dg lt sg = 1 := by
  unfold gl_on
  split
  · exact Or.inr rfl
  · exact Or.inl rfl
section
variable {post : Int32 → St0 → Prop} {mc ms kc ks : Nat} {x0 x1 x2 x3 x4 x6 x9 x10 x11 x12 x13 x14 x15 x16 z0 z1 : Int32} {cn zz nm dg lt : Nat} {sg : Nat → Nat} {o : Int32} {a1 a2 a3 a4 a5 a6 a7 a8 a9 : Nat → Int32}
theorem gl_424 (K : gl_K cn zz nm dg lt sg a1 a2 a3 a4) (hp : post 1 ()) (hz : z1 = z0) : wL_lawOf_424 post mc ms (nI zz) (nI cn) (nI (gl_nn cn dg)) (nI (gl_on cn zz dg lt sg)) z0 z1 kc ks (nI cn) (nI zz) o a1 a2 a3 a4 a5 a6 a7 a8 a9 := by
  have k1 := K.1
  have k2 := K.2.1
  refine br_t hz ?_
  by_cases h1 : cn = 1
  · subst h1
    refine gl_ruleFits1 K (fun o a5 a6 a7 a8 a9 => br_f (by decide) (pk_eq zz 0 (fun e => ?_) (fun e => ?_)))
    · exact gl_flag (gl_nn01 1 dg) (fun q => br_t (by rw [if_pos e, q]; rfl) hp) (fun q => br_t (by rw [if_pos e, q]; rfl) hp)
    · exact gl_flag (gl_on01 1 zz dg lt sg) (fun q => br_t (by rw [if_neg e, q]; rfl) hp) (fun q => br_t (by rw [if_neg e, q]; rfl) hp)
  · have h0 : cn = 0 := by omega
    subst h0
    exact gl_ruleFits0 (br_t rfl (br_t rfl hp))
theorem gl_387 (K : gl_K cn zz nm dg lt sg a1 a2 a3 a4) (hp : post 1 ()) (hN : cn = 1 → x0 = nI nm) (hz : z1 = z0) : wL_lawOf_387 post mc ms x0 (nI zz) (nI cn) (nI (gl_nn cn dg)) (nI (gl_on cn zz dg lt sg)) z0 z1 kc ks (nI cn) (nI zz) o a1 a2 a3 a4 a5 a6 a7 a8 a9 := by
  have k2 := K.2.1
  have k3 := K.2.2.1
  have A : x0 = 0 → (if 0 = nm then (if zz = 0 then gl_nn cn dg else gl_on cn zz dg lt sg) else 0) = (if zz = 0 then gl_nn cn dg else gl_on cn zz dg lt sg) := by
    intro e
    by_cases h1 : cn = 1
    · have h2 := hN h1
      rw [e, ← nI_0] at h2
      have h3 : 0 = nm := (nI_eq (by omega) (by omega)).mp h2
      rw [if_pos h3]
    · rw [gl_nn0 h1, gl_on0 h1, ite_self, ite_self]
  have B : ¬ x0 = 0 → (if 0 = nm then (if zz = 0 then gl_nn cn dg else gl_on cn zz dg lt sg) else 0) = 0 := by
    intro e
    by_cases h1 : cn = 1
    · have h2 := hN h1
      rw [if_neg]
      intro h3
      rw [← h3, nI_0] at h2
      exact e h2
    · rw [gl_nn0 h1, gl_on0 h1, ite_self, ite_self]
  refine br_t hz (gl_accepts K (fun o a5 a6 a7 a8 a9 => br_c (fun e => ?_) (fun e => ?_)))
  · rw [A e]
    refine pk_eq zz 0 (fun q => ?_) (fun q => ?_)
    · rw [if_pos q]
      exact gl_flag (gl_nn01 cn dg) (fun f => gl_424 K hp (by rw [f]; rfl)) (fun f => gl_424 K hp (by rw [f]; rfl))
    · rw [if_neg q]
      exact gl_flag (gl_on01 cn zz dg lt sg) (fun f => gl_424 K hp (by rw [f]; rfl)) (fun f => gl_424 K hp (by rw [f]; rfl))
  · rw [B e]
    exact gl_424 K hp rfl
theorem gl_347a (K : gl_K cn zz nm dg lt sg a1 a2 a3 a4) (hp : post 1 ()) (hN : cn = 1 → x0 = nI nm) (hx : x3 < 0 ∨ nI 8 ≤ x3) : wL_lawOf_347 post mc ms x0 x3 x4 (nI zz) (nI cn) (nI (gl_nn cn dg)) (nI (gl_on cn zz dg lt sg)) 0 x16 z0 kc ks (nI cn) (nI zz) o a1 a2 a3 a4 a5 a6 a7 a8 a9 :=
  gl_fits0 hx (br_t rfl (gl_387 K hp hN rfl))
theorem gl_347b {sign : Nat} (K : gl_K cn zz nm dg lt sg a1 a2 a3 a4) (hp : post 1 ()) (hN : cn = 1 → x0 = nI nm) (hs : sign < 8) (hx : x4 < 0 ∨ nI (zz + 1) ≤ x4) : wL_lawOf_347 post mc ms x0 (nI sign) x4 (nI zz) (nI cn) (nI (gl_nn cn dg)) (nI (gl_on cn zz dg lt sg)) 1 0 z0 kc ks (nI cn) (nI zz) o a1 a2 a3 a4 a5 a6 a7 a8 a9 :=
  gl_fits1 hs K.2.1 hx (br_f (by decide) (br_t rfl (gl_387 K hp hN rfl)))
theorem gl_347c {sign j r : Nat} (K : gl_K cn zz nm dg lt sg a1 a2 a3 a4) (hp : post 1 ()) (hN : cn = 1 → x0 = nI nm) (hs : sign < 8) (hj : j ≤ zz) (h01 : r = 0 ∨ r = 1) (hr : ((gl_En cn zz nm dg lt sg sign 0 >>> (nI j &&& 31)) &&& 1) = nI r) (hz : z0 = nI r) : wL_lawOf_347 post mc ms x0 (nI sign) (nI j) (nI zz) (nI cn) (nI (gl_nn cn dg)) (nI (gl_on cn zz dg lt sg)) 1 1 z0 kc ks (nI cn) (nI zz) o a1 a2 a3 a4 a5 a6 a7 a8 a9 := by
  subst hz
  exact gl_fits2 K hs hj hr (fun o a5 a6 a7 a8 a9 => br_f (by decide) (br_f (by decide) (gl_flag h01 (fun q => gl_387 K hp hN (by rw [q]; rfl)) (fun q => gl_387 K hp hN (by rw [q]; rfl)))))
theorem gl_288 {c z : Int32} (h1 : ((x3 ≤ 4 ∧ x3 = x0 ∧ (x4 = 0 → ¬ x13 = 0) ∧ (¬ x4 = 0 → ¬ x14 = 0)) ∨ (¬ x3 ≤ 4 ∧ ¬ x10 = 0 ∧ x4 = 1 ∧ x3 = x2)) → wL_lawOf_347 post mc ms x0 x3 x4 x11 x12 x13 x14 x15 z0 1 kc ks c z o a1 a2 a3 a4 a5 a6 a7 a8 a9)
    (h0 : ¬ ((x3 ≤ 4 ∧ x3 = x0 ∧ (x4 = 0 → ¬ x13 = 0) ∧ (¬ x4 = 0 → ¬ x14 = 0)) ∨ (¬ x3 ≤ 4 ∧ ¬ x10 = 0 ∧ x4 = 1 ∧ x3 = x2)) → wL_lawOf_347 post mc ms x0 x3 x4 x11 x12 x13 x14 x15 z0 0 kc ks c z o a1 a2 a3 a4 a5 a6 a7 a8 a9) : wL_lawOf_288 post mc ms x0 x2 x3 x4 x10 x11 x12 x13 x14 x15 z0 kc ks c z o a1 a2 a3 a4 a5 a6 a7 a8 a9 := by
  refine br_c (fun a => br_c (fun b => br_c (fun d => br_c (fun e => h0 ?_) (fun e => h1 ?_)) (fun d => br_c (fun e => h0 ?_) (fun e => h1 ?_))) (fun b => h0 ?_)) (fun a => br_c (fun b => h0 ?_) (fun b => br_c (fun d => br_c (fun e => h1 ?_) (fun e => h0 ?_)) (fun d => h0 ?_)))
  · rintro (w | w)
    · exact w.2.2.1 d e
    · exact w.1 a
  · exact Or.inl ⟨a, b, fun _ => e, fun w => absurd d w⟩
  · rintro (w | w)
    · exact w.2.2.2 d e
    · exact w.1 a
  · exact Or.inl ⟨a, b, fun w => absurd w d, fun _ => e⟩
  · rintro (w | w)
    · exact b w.2.1
    · exact w.1 a
  · rintro (w | w)
    · exact a w.1
    · exact w.2.1 b
  · exact Or.inr ⟨a, b, d, e⟩
  · rintro (w | w)
    · exact a w.1
    · exact e w.2.2.2
  · rintro (w | w)
    · exact a w.1
    · exact d w.2.2.1
theorem gl_269 {c z : Int32} (hzz : zz ≤ 1) (h0 : x4 < 0 ∨ nI (zz + 1) ≤ x4 → wL_lawOf_288 post mc ms x0 x2 x3 x4 x10 (nI zz) x12 x13 x14 z0 0 kc ks c z o a1 a2 a3 a4 a5 a6 a7 a8 a9) (h1 : ∀ j, j ≤ zz → x4 = nI j → wL_lawOf_288 post mc ms x0 x2 x3 x4 x10 (nI zz) x12 x13 x14 z0 1 kc ks c z o a1 a2 a3 a4 a5 a6 a7 a8 a9) : wL_lawOf_269 post mc ms x0 x2 x3 x4 x10 (nI zz) x12 x13 x14 z0 kc ks c z o a1 a2 a3 a4 a5 a6 a7 a8 a9 := by
  rcases pk_ix x4 (n := zz + 1) (by omega) with h | h | ⟨j, hj, e⟩
  · exact br_t h (h0 (Or.inl h))
  · exact br_f (gl_big (by omega) h).1 (br_t ((gl_big (by omega) h).2.2 zz (by omega)) (h0 (Or.inr h)))
  · have hh := h1 j (by omega) e
    subst e
    exact br_f (nI_pos (by omega)) (br_f (nI_nlt (by omega) (by omega)) hh)
theorem gl_249 (K : gl_K cn zz nm dg lt sg a1 a2 a3 a4) (hp : post 1 ()) (hN : cn = 1 → x0 = nI nm) (hL : zz = 1 → x2 = nI lt) (hz : z1 = z0) : wL_lawOf_249 post mc ms x0 x2 x3 x4 (nI zz) (nI zz) (nI cn) (nI (gl_nn cn dg)) (nI (gl_on cn zz dg lt sg)) z0 z1 kc ks (nI cn) (nI zz) o a1 a2 a3 a4 a5 a6 a7 a8 a9 := by
  have k2 := K.2.1
  have k3 := K.2.2.1
  have k5 := K.2.2.2.2.1
  refine br_t hz ?_
  rcases pk_ix x3 (n := 8) (by omega) with h | h | ⟨sign, hs, e⟩
  · exact br_t h (gl_269 k2 (fun _ => gl_288 (fun _ => gl_347a K hp hN (Or.inl h)) (fun _ => gl_347a K hp hN (Or.inl h))) (fun _ _ _ => gl_288 (fun _ => gl_347a K hp hN (Or.inl h)) (fun _ => gl_347a K hp hN (Or.inl h))))
  · exact br_f (gl_big (by omega) h).1 (br_t ((gl_big (by omega) h).2.2 7 (by omega)) (gl_269 k2 (fun _ => gl_288 (fun _ => gl_347a K hp hN (Or.inr h)) (fun _ => gl_347a K hp hN (Or.inr h))) (fun _ _ _ => gl_288 (fun _ => gl_347a K hp hN (Or.inr h)) (fun _ => gl_347a K hp hN (Or.inr h)))))
  · subst e
    refine br_f (nI_pos (by omega)) (br_f (nI_nlt (a := 7) (b := sign) (by omega) (by omega)) ?_)
    refine gl_269 k2 (fun h => gl_288 (fun _ => gl_347b K hp hN hs h) (fun _ => gl_347b K hp hN hs h)) (fun j hj e => ?_)
    subst e
    by_cases h5 : sign < 5
    · have h4 : nI sign ≤ 4 := nI_le (b := 4) (by omega) (by omega)
      have hr := gl_bit0 (cn := cn) (nm := nm) (dg := dg) (lt := lt) (sg := sg) h5 k2 hj
      have h01 : (if sign = nm then (if j = 0 then gl_nn cn dg else gl_on cn zz dg lt sg) else 0) = 0 ∨ (if sign = nm then (if j = 0 then gl_nn cn dg else gl_on cn zz dg lt sg) else 0) = 1 := by
        by_cases q1 : sign = nm
        · rw [if_pos q1]
          by_cases q2 : j = 0
          · rw [if_pos q2]
            exact gl_nn01 cn dg
          · rw [if_neg q2]
            exact gl_on01 cn zz dg lt sg
        · rw [if_neg q1]
          exact Or.inl rfl
      refine gl_288 (fun w => gl_347c K hp hN hs hj h01 hr ?_) (fun w => gl_347c K hp hN hs hj h01 hr ?_)
      · rcases w with w | w
        · obtain ⟨_, w2, w3, w4⟩ := w
          have hc : cn = 1 := by
            by_cases hc : cn = 1
            · exact hc
            · rw [gl_nn0 hc] at w3
              rw [gl_on0 hc] at w4
              by_cases q : nI j = 0
              · exact absurd rfl (w3 q)
              · exact absurd rfl (w4 q)
          rw [hN hc] at w2
          have e1 : sign = nm := (nI_eq (by omega) (by omega)).mp w2
          rw [if_pos e1]
          by_cases q : j = 0
          · rw [if_pos q]
            rcases gl_nn01 cn dg with f | f
            · rw [f] at w3
              rw [q] at w3
              exact absurd rfl (w3 rfl)
            · rw [f]
              rfl
          · rw [if_neg q]
            rcases gl_on01 cn zz dg lt sg with f | f
            · rw [f] at w4
              exact absurd rfl (w4 (nI_ne0 (by omega) (by omega)))
            · rw [f]
              rfl
        · exact absurd h4 w.1
      · by_cases e1 : sign = nm
        · rw [if_pos e1]
          by_cases hc : cn = 1
          · by_cases q : j = 0
            · rw [if_pos q]
              rcases gl_nn01 cn dg with f | f
              · rw [f]
                rfl
              · refine absurd (Or.inl ⟨h4, ?_, fun _ => ?_, fun t => ?_⟩) w
                · rw [hN hc, e1]
                · rw [f]
                  decide
                · rw [q] at t
                  exact absurd rfl t
            · rw [if_neg q]
              rcases gl_on01 cn zz dg lt sg with f | f
              · rw [f]
                rfl
              · refine absurd (Or.inl ⟨h4, ?_, fun t => ?_, fun _ => ?_⟩) w
                · rw [hN hc, e1]
                · exact absurd t (nI_ne0 (by omega) (by omega))
                · rw [f]
                  decide
          · rw [gl_nn0 hc, gl_on0 hc, ite_self]
            rfl
        · rw [if_neg e1]
          rfl
    · have h4 : ¬ nI sign ≤ 4 := nI_ge (b := sign) (a := 4) (by omega) (by omega)
      have hr := gl_bit5 (cn := cn) (nm := nm) (dg := dg) (lt := lt) (sg := sg) (show 5 ≤ sign by omega) k2 hj
      have h01 : (if j = 1 ∧ sign = lt then 1 else 0) = 0 ∨ (if j = 1 ∧ sign = lt then 1 else 0) = 1 := by
        split
        · exact Or.inr rfl
        · exact Or.inl rfl
      refine gl_288 (fun w => gl_347c K hp hN hs hj h01 hr ?_) (fun w => gl_347c K hp hN hs hj h01 hr ?_)
      · rcases w with w | w
        · exact absurd w.1 h4
        · obtain ⟨_, w2, w3, w4⟩ := w
          have q1 : j = 1 := (nI_eq (b := 1) (by omega) (by omega)).mp w3
          rw [hL (by omega)] at w4
          rw [if_pos ⟨q1, (nI_eq (by omega) (by omega)).mp w4⟩]
          rfl
      · by_cases q : j = 1 ∧ sign = lt
        · refine absurd (Or.inr ⟨h4, nI_ne0 (by omega) (by omega), ?_, ?_⟩) w
          · rw [q.1]
            rfl
          · rw [hL (by omega), q.2]
        · rw [if_neg q]
          rfl
/-- the name, as the law sees it, and the rule -/
def gl_M (cn nm : Nat) (x0 x6 : Int32) : Prop := (x6 = 0 ∧ (x0 < 0 ∨ nI 5 ≤ x0) ∧ cn = 0) ∨ (x6 = 1 ∧ ∃ name, name < 5 ∧ x0 = nI name ∧ (cn = 1 → name = nm))
/-- the rule's right side, as the law sees it -/
def gl_R (cn dg : Nat) (sg : Nat → Nat) (x1 : Int32) : Prop := cn = 1 → ∃ R, R < 729 ∧ x1 = nI R ∧ (dg = 0 ↔ R = 0) ∧ (dg = 1 ↔ 0 < R ∧ R < 9) ∧ (dg = 1 → sg 0 + 1 = R)
theorem gl_222 (K : gl_K cn zz nm dg lt sg a1 a2 a3 a4) (hp : post 1 ()) (hM : gl_M cn nm x0 x6) (hL : zz = 1 → x2 = nI lt) (h14 : x14 = nI (gl_on cn zz dg lt sg)) : wL_lawOf_222 post mc ms x0 x2 x3 x4 x6 (nI zz) (nI zz) (nI cn) (nI (gl_nn cn dg)) x14 kc ks (nI cn) (nI zz) o a1 a2 a3 a4 a5 a6 a7 a8 a9 := by
  subst h14
  rcases hM with ⟨e6, h0, hc⟩ | ⟨e6, name, hn, e0, hc⟩
  · exact gl_empty0 h0 (br_t e6 (gl_249 K hp (fun w => absurd w (by omega)) hL rfl))
  · subst e6 e0
    have hN : cn = 1 → nI name = nI nm := fun w => by rw [hc w]
    exact gl_empty1 K hn hc (fun o a5 a6 a7 a8 a9 => br_f (by decide) (gl_flag (gl_nn01 cn dg) (fun q => gl_249 K hp hN hL (by rw [q]; rfl)) (fun q => gl_249 K hp hN hL (by rw [q]; rfl))))
theorem gl_192 (K : gl_K cn zz nm dg lt sg a1 a2 a3 a4) (hp : post 1 ()) (hM : gl_M cn nm x0 x6) (hR : gl_R cn dg sg x1) (hL : zz = 1 → x2 = nI lt) (h13 : x13 = nI (gl_nn cn dg)) : wL_lawOf_192 post mc ms x0 x1 x2 x3 x4 x6 (nI zz) (nI zz) (nI cn) x13 kc ks (nI cn) (nI zz) o a1 a2 a3 a4 a5 a6 a7 a8 a9 := by
  subst h13
  have k1 := K.1
  have k2 := K.2.1
  have k5 := K.2.2.2.2.1
  have k6 := K.2.2.2.2.2.1
  refine pk_eq cn 0 (fun h => ?_) (fun h => pk_eq zz 0 (fun h2 => ?_) (fun h2 => ?_))
  · refine gl_222 K hp hM hL ?_
    rw [gl_on0 (by omega)]
    rfl
  · refine gl_222 K hp hM hL ?_
    rw [gl_on, if_neg (by omega)]
    rfl
  · have hc : cn = 1 := by omega
    have hz : zz = 1 := by omega
    have e2 := hL hz
    have h5 := k6 hz
    obtain ⟨R, hR1, e1, hR2, hR3, hR4⟩ := hR hc
    subst e1 e2
    refine pk_le 9 R (fun h3 => ?_) (fun h3 => br_c (fun h4 => ?_) (fun h4 => ?_))
    · refine gl_222 K hp hM hL ?_
      rw [gl_on, if_neg (by omega)]
      rfl
    · have hR0 : 0 < R := by
        rcases Nat.eq_zero_or_pos R with q | q
        · subst q
          have h6 : nI 0 - 1 = -1 := by decide
          rw [h6] at h4
          have h7 : ¬ nI lt < 0 := nI_pos (by omega)
          rw [← h4] at h7
          exact absurd (by decide) h7
        · exact q
      have h6 : nI (R - 1) = nI lt := by
        rw [← h4, show (1 : Int32) = nI 1 from rfl, pk_sub (by omega)]
      have h7 : R - 1 = lt := (nI_eq (by omega) (by omega)).mp h6
      have h8 : dg = 1 := hR3.mpr ⟨hR0, h3⟩
      have h9 := hR4 h8
      refine gl_222 K hp hM hL ?_
      rw [gl_on, if_pos ⟨hc, hz, h8, by omega⟩]
      rfl
    · refine gl_222 K hp hM hL ?_
      rw [gl_on, if_neg]
      · rfl
      · rintro ⟨_, _, q1, q2⟩
        have q3 := hR4 q1
        apply h4
        rw [← q3, nI_pred, q2]
theorem gl_176 (K : gl_K cn zz nm dg lt sg a1 a2 a3 a4) (hp : post 1 ()) (hM : gl_M cn nm x0 x6) (hR : gl_R cn dg sg x1) (hL : zz = 1 → x2 = nI lt) (h12 : x12 = nI cn) : wL_lawOf_176 post mc ms x0 x1 x2 x3 x4 x6 (nI zz) (nI zz) x12 kc ks (nI cn) (nI zz) o a1 a2 a3 a4 a5 a6 a7 a8 a9 := by
  subst h12
  have k1 := K.1
  refine pk_eq cn 0 (fun h => ?_) (fun h => ?_)
  · refine gl_192 K hp hM hR hL ?_
    rw [gl_nn0 (by omega)]
    rfl
  · have hc : cn = 1 := by omega
    obtain ⟨R, hR1, e1, hR2, hR3, hR4⟩ := hR hc
    subst e1
    refine pk_eq R 0 (fun q => ?_) (fun q => ?_)
    · refine gl_192 K hp hM hR hL ?_
      rw [gl_nn, if_pos ⟨hc, hR2.mpr q⟩]
      rfl
    · refine gl_192 K hp hM hR hL ?_
      rw [gl_nn, if_neg (fun w => q (hR2.mp w.2))]
      rfl
theorem gl_159 (K : gl_K cn zz nm dg lt sg a1 a2 a3 a4) (hp : post 1 ()) (hM : gl_M cn nm x0 x6) (hR : gl_R cn dg sg x1) (hL : zz = 1 → x2 = nI lt) (h9 : cn = 1 ↔ (¬ x6 = 0 ∧ ¬ x9 = 0)) : wL_lawOf_159 post mc ms x0 x1 x2 x3 x4 x6 x9 (nI zz) (nI zz) kc ks (nI cn) (nI zz) o a1 a2 a3 a4 a5 a6 a7 a8 a9 := by
  have k1 := K.1
  have c0 : ¬ cn = 1 → (0 : Int32) = nI cn := by
    intro w
    have : cn = 0 := by omega
    rw [this]
    rfl
  refine br_c (fun e => gl_176 K hp hM hR hL (c0 (fun w => (h9.mp w).1 e))) (fun e => br_c (fun f => gl_176 K hp hM hR hL (c0 (fun w => (h9.mp w).2 f))) (fun f => gl_176 K hp hM hR hL ?_))
  rw [h9.mpr ⟨e, f⟩]
  rfl
/-- behind the rule: the letter is pushed -/
theorem gl_105 (K : gl_K cn 0 nm dg lt sg a1 a2 a3 a4) (hp : post 1 ()) (hM : gl_M cn nm x0 x6) (hR : gl_R cn dg sg x1) (h9 : cn = 1 ↔ (¬ x6 = 0 ∧ ¬ x9 = 0)) (hz : z1 = z0) : wL_lawOf_105 post mc ms x0 x1 x2 x3 x4 x6 x9 z0 z1 kc ks (nI cn) (nI 0) o a1 a2 a3 a4 a5 a6 a7 a8 a9 := by
  refine br_t hz ?_
  have N : (x2 < 5 ∨ (¬ x2 < 5 ∧ 7 < x2)) → wL_lawOf_126 post mc ms x0 x1 x2 x3 x4 x6 x9 0 kc ks (nI cn) (nI 0) o a1 a2 a3 a4 a5 a6 a7 a8 a9 :=
    fun w => gl_push0 w (br_t rfl (br_t rfl (br_t rfl (gl_159 K hp hM hR (fun w => absurd w (by decide)) h9))))
  rcases gl_letter x2 with (h | h) | ⟨l, h5, h8, e⟩
  · exact br_t h (N (Or.inl h))
  · exact br_f h.1 (br_t h.2 (N (Or.inr h)))
  · subst e
    refine br_f (nI_nlt (b := 5) h5 (by omega)) (br_f (nI_nlt (b := l) (a := 7) (by omega) (by omega)) ?_)
    obtain ⟨k1, k2, k3, k4, k5, k6, k7, k8, k9, k10⟩ := K
    have K' : gl_K cn 1 nm dg l sg a1 a2 a3 (upd a4 0 (nI l)) := ⟨k1, by omega, k3, k4, h8, fun _ => h5, k7, k8, pk_us, k10⟩
    exact gl_push1 h5 h8 (br_f (by decide) (br_t rfl (br_f (by decide) (gl_159 K' hp hM hR (fun _ => rfl) h9))))
end
section
variable {post : Int32 → St0 → Prop} {mc ms kc ks : Nat} {x0 x1 x2 x3 x4 x6 z0 : Int32} {sg : Nat → Nat} {o : Int32} {a5 a6 a7 a8 a9 : Nat → Int32}
theorem gl_K0 : gl_K 0 0 0 0 0 sg (fun _ => 0) (fun _ => 0) (fun _ => 0) (fun _ => 0) := ⟨by omega, by omega, by omega, by omega, by omega, fun w => absurd w (by decide), rfl, rfl, rfl, fun k hk => absurd hk (by omega)⟩
/-- the rule is made, or isn't -/
theorem gl_76 (hp : post 1 ()) (h6 : (x6 = 0 ∧ (x0 < 0 ∨ nI 5 ≤ x0)) ∨ (x6 = 1 ∧ ∃ name, name < 5 ∧ x0 = nI name)) (h0 : (z0 = 0 ∧ (x1 < 0 ∨ nI 729 ≤ x1 ∨ ∃ R, R < 729 ∧ x1 = nI R ∧ ¬ gl_row R)) ∨ (z0 = 1 ∧ ∃ R, R < 729 ∧ x1 = nI R ∧ gl_row R)) : wL_lawOf_76 post mc ms x0 x1 x2 x3 x4 x6 z0 kc ks (nI 0) (nI 0) o (fun _ => 0) (fun _ => 0) (fun _ => 0) (fun _ => 0) a5 a6 a7 a8 a9 := by
  have nR : gl_R 0 0 (fun _ => 0) x1 := fun w => absurd w (by decide)
  rcases h6 with ⟨e6, h6⟩ | ⟨e6, name, hn, e0⟩
  · subst e6
    exact gl_rule0 h6 (br_t rfl (gl_105 gl_K0 hp (Or.inl ⟨rfl, h6, rfl⟩) nR ⟨fun w => absurd w (by decide), fun w => absurd rfl w.1⟩ rfl))
  · subst e6 e0
    rcases h0 with ⟨ez, h0⟩ | ⟨ez, R, hR, e1, hr⟩
    · subst ez
      exact gl_rule2 hn h0 (br_f (by decide) (br_t rfl (gl_105 gl_K0 hp (Or.inr ⟨rfl, name, hn, rfl, fun w => absurd w (by decide)⟩) nR ⟨fun w => absurd w (by decide), fun w => absurd rfl w.2⟩ rfl)))
    · subst ez e1
      refine gl_rule1 hn hR hr (fun sg b2 hb h1 => br_f (by decide) (br_f (by decide) ?_))
      have hdg : gl_dg R ≤ 3 ∧ (gl_dg R = 0 ↔ R = 0) ∧ (gl_dg R = 1 ↔ 0 < R ∧ R < 9) := by
        unfold gl_dg
        repeat' split
        all_goals omega
      refine gl_105 (cn := 1) (nm := name) (dg := gl_dg R) (lt := 0) (sg := sg) ⟨by omega, by omega, hn, hdg.1, by omega, fun w => absurd w (by decide), pk_us, pk_us, rfl, hb⟩ hp (Or.inr ⟨rfl, name, hn, rfl, fun _ => rfl⟩) (fun _ => ⟨R, hR, rfl, hdg.2.1, hdg.2.2, h1⟩) ⟨fun _ => ⟨by decide, by decide⟩, fun _ => rfl⟩ rfl
theorem gl_23 (hp : post 1 ()) (h6 : (x6 = 0 ∧ (x0 < 0 ∨ nI 5 ≤ x0)) ∨ (x6 = 1 ∧ ∃ name, name < 5 ∧ x0 = nI name)) : wL_lawOf_23 post mc ms x0 x1 x2 x3 x4 x6 kc ks (nI 0) (nI 0) o (fun _ => 0) (fun _ => 0) (fun _ => 0) (fun _ => 0) a5 a6 a7 a8 a9 := by
  rcases pk_ix x1 (n := 729) (by omega) with h | h | ⟨R, hR, e⟩
  · exact ⟨by decide, nm_e ⟨by decide, by decide, nm_e (br_t h (gl_76 hp h6 (Or.inl ⟨rfl, Or.inl h⟩)))⟩⟩
  · exact ⟨by decide, nm_e ⟨by decide, by decide, nm_e (br_f (gl_big (by omega) h).1 (br_t ((gl_big (by omega) h).2.2 728 (by omega)) (gl_76 hp h6 (Or.inl ⟨rfl, Or.inr (Or.inl h)⟩))))⟩⟩
  · subst e
    have n : ¬ gl_row R → wL_lawOf_76 post mc ms x0 (nI R) x2 x3 x4 x6 0 kc ks (nI 0) (nI 0) o (fun _ => 0) (fun _ => 0) (fun _ => 0) (fun _ => 0) a5 a6 a7 a8 a9 :=
      fun w => gl_76 hp h6 (Or.inl ⟨rfl, Or.inr (Or.inr ⟨R, hR, rfl, w⟩)⟩)
    have y : gl_row R → wL_lawOf_76 post mc ms x0 (nI R) x2 x3 x4 x6 1 kc ks (nI 0) (nI 0) o (fun _ => 0) (fun _ => 0) (fun _ => 0) (fun _ => 0) a5 a6 a7 a8 a9 :=
      fun w => gl_76 hp h6 (Or.inr ⟨rfl, R, hR, rfl, w⟩)
    have e8 : nI R / 9 - nI R / 9 / 9 * 9 = nI (R / 9 % 9) := by
      rw [gl_d9 (by omega), gl_r9 (by omega)]
    refine ⟨by decide, nm_r (gl_r9 (by omega)) ⟨by decide, by decide, nm_r e8 ?_⟩⟩
    refine br_f (nI_pos (by omega)) (br_f (nI_nlt (b := R) (a := 728) (by omega) (by omega)) ?_)
    refine pk_eq R 0 (fun q => y (Or.inl q)) (fun q => pk_le (R % 9) 0 (fun q1 => n ?_) (fun q1 => pk_lt R 9 (fun q2 => y (Or.inr ⟨q1, Or.inl q2⟩)) (fun q2 => pk_le (R / 9 % 9) 0 (fun q3 => n ?_) (fun q3 => y (Or.inr ⟨q1, Or.inr q3⟩)))))
    · unfold gl_row
      omega
    · unfold gl_row
      omega
theorem gl_lawOf {p0 p1 p2 p3 p4 : Int32} (hp : post 1 ()) : wpL_lawOf post (1 + 9) (12 + 4435) () p0 p1 p2 p3 p4 := by
  refine ⟨by omega, by omega, 9, 4435, by omega, by omega, by omega, by omega, by omega, by omega, by omega, by omega, by omega, by omega, by omega, by omega, by omega, by omega, by omega, by omega, by omega, by omega, by omega, by omega, ?_⟩
  rcases pk_ix p0 (n := 5) (by omega) with h | h | ⟨name, hn, e⟩
  · exact br_t h (gl_23 hp (Or.inl ⟨rfl, Or.inl h⟩))
  · exact br_f (gl_big (by omega) h).1 (br_t ((gl_big (by omega) h).2.2 4 (by omega)) (gl_23 hp (Or.inl ⟨rfl, Or.inr h⟩)))
  · subst e
    exact br_f (nI_pos (by omega)) (br_f (nI_nlt (b := name) (a := 4) (by omega) (by omega)) (gl_23 hp (Or.inr ⟨rfl, name, hn, rfl⟩)))
end
end
section
/-! ===== the script's cells, and what is owed ===== -/
theorem gl_cell {post : Int32 → Prop} {L : Nat} {xs : Nat → Int32} (hL : L ≤ 5) (i : Nat) (hi : i < 5) (H : ∀ r, post r) : wpL_cellAt post L xs () (nI i) :=
  pk_le L i (fun _ => H _) (fun h => ⟨pk_in i L h, H _⟩)
theorem i_vc (xs : Nat → Int32) (L : Nat) (hL : L ≤ 5) : wpL_law (fun r => r = 1) L xs :=
  gl_cell hL 0 (by omega) (fun r1 => gl_cell hL 1 (by omega) (fun r2 => gl_cell hL 2 (by omega) (fun r3 => gl_cell hL 3 (by omega) (fun r4 => gl_cell hL 4 (by omega) (fun r5 => ⟨1 + 9, 12 + 4435, by omega, by omega, gl_lawOf (post := fun r _ => r = 1) rfl⟩)))))
end
