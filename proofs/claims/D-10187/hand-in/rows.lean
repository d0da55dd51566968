section
/-! pure notions: instruction lengths, targets, the program's shape, relocated code -/
def dh_ln : Nat → Nat
  | 0 => 1
  | 5 => 3
  | 7 => 1
  | _ => 2
def dh_al : Nat → Nat
  | 0 => 1
  | 1 => 2
  | 2 => 2
  | 3 => 2
  | 4 => 3
  | 6 => 3
  | 7 => 1
  | _ => 4
theorem dh_ln_pos (k : Nat) : 1 ≤ dh_ln k := by unfold dh_ln; split <;> omega
theorem dh_ln_le (k : Nat) : dh_ln k ≤ 3 := by unfold dh_ln; split <;> omega
theorem dh_al_le4 (k : Nat) : dh_al k ≤ 4 := by unfold dh_al; split <;> omega
theorem dh_al_le : ∀ k, k < 9 → dh_al k ≤ 2 * dh_ln k := by decide
theorem dh_ln_2 {k : Nat} (h0 : k ≠ 0) (h5 : k ≠ 5) (h7 : k ≠ 7) : dh_ln k = 2 := by
  unfold dh_ln
  split
  · exact absurd rfl h0
  · exact absurd rfl h5
  · exact absurd rfl h7
  · rfl
/-- the kind at x -/
def dh_k (P : Nat → Int32) (x : Nat) : Nat := (P x).toNatClampNeg
def dh_sg (b : Int32) : Int32 := if b ≤ 127 then b else b - 256
/-- the target of the instruction at x -/
def dh_tg (P : Nat → Int32) (x : Nat) : Int32 := nI x + nI (dh_ln (dh_k P x)) + dh_sg (P (x + dh_ln (dh_k P x) - 1))
/-- the address kept in two bytes -/
def dh_adr (A : Nat → Int32) (q : Nat) : Int32 := A q * 256 + A (q + 1) - 256
theorem dh_adr_ok {w : Nat} (hw : w < 2 ^ 31) : (nI w >>> ((8 : Int32) &&& 31)) * 256 + (nI w &&& 255) = nI w := by
  rw [pk_shrN hw ((8 : Int32) &&& 31) 8 (by decide), pk_andN (n := w) (m := 255) (by omega) 8 (by decide)]
  show nI (w / 2 ^ 8) * nI 256 + nI (w % 2 ^ 8) = nI w
  rw [pk_mul, nI_add]
  congr 1
  omega
theorem dh_sub_add (x y : Int32) : x + y - y = x := by grind
theorem dh_adr_x {x : Int32} {w : Nat} (hw : w < 2 ^ 31) (e : x + 256 = nI w) : ((x + 256) >>> ((8 : Int32) &&& 31)) * 256 + ((x + 256) &&& 255) - 256 = x := by
  rw [e, dh_adr_ok hw, ← e]
  exact dh_sub_add x 256
/-- the program's shape: l bytes, cut into whole instructions -/
def dh_wf (l : Nat) (P S : Nat → Int32) : Prop := l ≤ 64 ∧ ∀ x, x < l → S x ≠ 0 →
  P x = nI (dh_k P x) ∧ dh_k P x < 9 ∧ x + dh_ln (dh_k P x) ≤ l ∧ (x + dh_ln (dh_k P x) < l → S (x + dh_ln (dh_k P x)) ≠ 0) ∧
  (∀ y, x < y → y < x + dh_ln (dh_k P x) → S y = 0) ∧ (4 ≤ dh_k P x → dh_k P x ≤ 6 → ∃ b, b < 256 ∧ P (x + dh_ln (dh_k P x) - 1) = nI b)
/-- a target's bounds -/
theorem dh_tg_b {l : Nat} {P S : Nat → Int32} (hw : dh_wf l P S) {x : Nat} (hx : x < l) (hs : S x ≠ 0) (h4 : 4 ≤ dh_k P x) (h6 : dh_k P x ≤ 6) :
    dh_tg P x < 512 ∧ ∃ w, w < 2 ^ 31 ∧ dh_tg P x + 256 = nI w := by
  obtain ⟨hl, hw⟩ := hw
  obtain ⟨_, _, hle, _, _, hb⟩ := hw x hx hs
  obtain ⟨b, hb, e⟩ := hb h4 h6
  unfold dh_tg
  rw [e]
  generalize dh_ln (dh_k P x) = n at *
  rw [nI_add]
  unfold dh_sg
  by_cases h : nI b ≤ 127
  · rw [if_pos h, nI_add]
    have h' : b ≤ 127 := (nI_leI (a := b) (b := 127) (by omega) (by omega)).mp h
    exact ⟨nI_lt (b := 512) (by omega) (by omega), x + n + b + 256, by omega, nI_add (x + n + b) 256⟩
  · rw [if_neg h]
    have e1 : nI (x + n) + (nI b - 256) = nI (x + n + b) - nI 256 := by
      rw [← nI_add (x + n) b]
      show nI (x + n) + (nI b - 256) = nI (x + n) + nI b - 256
      grind
    rw [e1]
    refine ⟨?_, x + n + b, by omega, ?_⟩
    · rw [Int32.lt_iff_toInt_lt, pk_sub_toInt (by omega) (by omega), show (512 : Int32).toInt = 512 from by decide]
      omega
    · show nI (x + n + b) - 256 + 256 = nI (x + n + b)
      grind
/-- the bytes at q of the second area are the instruction of kind kd, relocated -/
def dh_enc (A : Nat → Int32) (q : Nat) (sec tg nw : Int32) : Nat → Prop
  | 0 => A q = 0
  | 1 => A q = 1 ∧ A (q + 1) = sec
  | 2 => A q = 2 ∧ A (q + 1) = sec
  | 3 => A q = 3 ∧ A (q + 1) = sec
  | 4 => A q = 14 ∧ dh_adr A (q + 1) = tg
  | 5 => A q = 11 ∧ A (q + 1) = sec ∧ dh_adr A (q + 2) = tg
  | 6 => A q = 12 ∧ dh_adr A (q + 1) = tg
  | 7 => A q = 7
  | _ => A q = 13 ∧ A (q + 1) = sec ∧ dh_adr A (q + 2) = nw
theorem dh_lt9 {P : Nat → Prop} (h0 : P 0) (h1 : P 1) (h2 : P 2) (h3 : P 3) (h4 : P 4) (h5 : P 5) (h6 : P 6) (h7 : P 7) (h8 : P 8) : ∀ k, k < 9 → P k := by
  intro k hk
  match k, hk with
  | 0, _ => exact h0
  | 1, _ => exact h1
  | 2, _ => exact h2
  | 3, _ => exact h3
  | 4, _ => exact h4
  | 5, _ => exact h5
  | 6, _ => exact h6
  | 7, _ => exact h7
  | 8, _ => exact h8
theorem dh_adr_fr {A A' : Nat → Int32} {q : Nat} (h0 : A' q = A q) (h1 : A' (q + 1) = A (q + 1)) : dh_adr A' q = dh_adr A q := by
  unfold dh_adr
  rw [h0, h1]
theorem dh_enc_fr {A A' : Nat → Int32} {q : Nat} {sec tg nw : Int32} : ∀ k, k < 9 → (∀ p, q ≤ p → p < q + dh_al k → A' p = A p) → dh_enc A q sec tg nw k → dh_enc A' q sec tg nw k := by
  refine dh_lt9 ?_ ?_ ?_ ?_ ?_ ?_ ?_ ?_ ?_
  · intro h e
    exact (h q (by omega) (by show q < q + 1; omega)).trans e
  · intro h e
    exact ⟨(h q (by omega) (by show q < q + 2; omega)).trans e.1, (h (q + 1) (by omega) (by show q + 1 < q + 2; omega)).trans e.2⟩
  · intro h e
    exact ⟨(h q (by omega) (by show q < q + 2; omega)).trans e.1, (h (q + 1) (by omega) (by show q + 1 < q + 2; omega)).trans e.2⟩
  · intro h e
    exact ⟨(h q (by omega) (by show q < q + 2; omega)).trans e.1, (h (q + 1) (by omega) (by show q + 1 < q + 2; omega)).trans e.2⟩
  · intro h e
    exact ⟨(h q (by omega) (by show q < q + 3; omega)).trans e.1, (dh_adr_fr (h (q + 1) (by omega) (by show q + 1 < q + 3; omega)) (h (q + 1 + 1) (by omega) (by show q + 1 + 1 < q + 3; omega))).trans e.2⟩
  · intro h e
    exact ⟨(h q (by omega) (by show q < q + 4; omega)).trans e.1, (h (q + 1) (by omega) (by show q + 1 < q + 4; omega)).trans e.2.1, (dh_adr_fr (h (q + 2) (by omega) (by show q + 2 < q + 4; omega)) (h (q + 2 + 1) (by omega) (by show q + 2 + 1 < q + 4; omega))).trans e.2.2⟩
  · intro h e
    exact ⟨(h q (by omega) (by show q < q + 3; omega)).trans e.1, (dh_adr_fr (h (q + 1) (by omega) (by show q + 1 < q + 3; omega)) (h (q + 1 + 1) (by omega) (by show q + 1 + 1 < q + 3; omega))).trans e.2⟩
  · intro h e
    exact (h q (by omega) (by show q < q + 1; omega)).trans e
  · intro h e
    exact ⟨(h q (by omega) (by show q < q + 4; omega)).trans e.1, (h (q + 1) (by omega) (by show q + 1 < q + 4; omega)).trans e.2.1, (dh_adr_fr (h (q + 2) (by omega) (by show q + 2 < q + 4; omega)) (h (q + 2 + 1) (by omega) (by show q + 2 + 1 < q + 4; omega))).trans e.2.2⟩
/-- i relocated instructions from q on, for x up to e, then the way back -/
def dh_ch (P S M A : Nat → Int32) (hi e : Nat) : Nat → Nat → Nat → Prop
  | 0, q, x => x = e ∧ q + 3 ≤ hi ∧ A q = 9 ∧ dh_adr A (q + 1) = nI e
  | i + 1, q, x => x < e ∧ S x ≠ 0 ∧ M x = nI (512 + q) ∧ dh_enc A q (P (x + 1)) (dh_tg P x) (nI (x + 2)) (dh_k P x) ∧ dh_ch P S M A hi e i (q + dh_al (dh_k P x)) (x + dh_ln (dh_k P x))
theorem dh_ch_hi {P S M A : Nat → Int32} {hi e : Nat} : ∀ i q x, dh_ch P S M A hi e i q x → q + 3 ≤ hi ∧ x ≤ e := by
  intro i
  induction i with
  | zero => intro q x h; exact ⟨h.2.1, by have := h.1; omega⟩
  | succ i ih =>
    intro q x h
    obtain ⟨h1, _, _, _, h2⟩ := h
    have := ih _ _ h2
    exact ⟨by omega, by omega⟩
theorem dh_ch_fr {P S M M' A A' : Nat → Int32} {hi e l : Nat} (hw : dh_wf l P S) (hel : e ≤ l) : ∀ i q x, (∀ p, q ≤ p → p < hi → A' p = A p) → (∀ y, x ≤ y → y < e → M' y = M y) → dh_ch P S M A hi e i q x → dh_ch P S M' A' hi e i q x := by
  intro i
  induction i with
  | zero =>
    intro q x hA hM h
    obtain ⟨h1, h2, h3, h4⟩ := h
    exact ⟨h1, h2, (hA q (by omega) (by omega)).trans h3, (dh_adr_fr (hA (q + 1) (by omega) (by omega)) (hA (q + 1 + 1) (by omega) (by omega))).trans h4⟩
  | succ i ih =>
    intro q x hA hM h
    obtain ⟨h1, h2, h3, h4, h5⟩ := h
    have hk := (hw.2 x (by omega) h2).2.1
    have hh := dh_ch_hi _ _ _ h5
    exact ⟨h1, h2, (hM x (by omega) h1).trans h3, dh_enc_fr _ hk (fun p hp hp' => hA p hp (by omega)) h4, ih _ _ (fun p hp hp' => hA p (by omega) hp') (fun y hy hy' => hM y (by omega) hy') h5⟩
/-- a start within a chain is one of its instructions -/
theorem dh_ch_at {P S M A : Nat → Int32} {hi e l : Nat} (hw : dh_wf l P S) (hel : e ≤ l) : ∀ i q x, dh_ch P S M A hi e i q x → ∀ y, x ≤ y → y < e → S y ≠ 0 → ∃ i' q', dh_ch P S M A hi e (i' + 1) q' y := by
  intro i
  induction i with
  | zero => intro q x h y h1 h2 _; have := h.1; omega
  | succ i ih =>
    intro q x h y h1 h2 hs
    by_cases hy : y = x
    · subst hy
      exact ⟨i, q, h⟩
    · obtain ⟨g1, g2, g3, g4, g5⟩ := h
      have hz := (hw.2 x (by omega) g2).2.2.2.2.1 y (by omega)
      exact ih _ _ g5 y (Nat.le_of_not_lt fun z => hs (hz z)) h2 hs
/-- slot h holds a hook at a with a head of n bytes -/
def dh_hd (H G : Nat → Int32) (h a n : Nat) : Prop := h < 4 ∧ H h = nI a ∧ G h = nI n ∧ 3 ≤ n ∧ a + n ≤ 64
theorem dh_hd_u {H G : Nat → Int32} {h a n a' n' : Nat} (x : dh_hd H G h a n) (y : dh_hd H G h a' n') : a = a' ∧ n = n' := by
  obtain ⟨_, x1, x2, x3, x4⟩ := x
  obtain ⟨_, y1, y2, y3, y4⟩ := y
  exact ⟨(nI_eq (by omega) (by omega)).mp (x1.symm.trans y1), (nI_eq (by omega) (by omega)).mp (x2.symm.trans y2)⟩
/-- what stands for that hook in code and area -/
def dh_hk (l : Nat) (P C S M A : Nat → Int32) (h a n : Nat) : Prop := a + n ≤ l ∧ S a ≠ 0 ∧ C a = 9 ∧ dh_adr C (a + 1) = nI (512 + 16 * h) ∧ A (16 * h) = 10 ∧
  (∃ i, dh_ch P S M A (16 * h + 16) (a + n) i (16 * h + 2) a) ∧
  (∀ x, x < l → S x ≠ 0 → 4 ≤ dh_k P x → dh_k P x ≤ 6 → dh_tg P x ≤ nI a ∨ nI (a + n) ≤ dh_tg P x)
/-- an object in order -/
def dh_ok (l : Nat) (P C S M A H G : Nat → Int32) : Prop := dh_wf l P S ∧
  (∀ h, h < 4 → H h = -1 ∨ ∃ a n, dh_hd H G h a n ∧ dh_hk l P C S M A h a n) ∧
  (∀ h a n h' a' n', dh_hd H G h a n → dh_hd H G h' a' n' → h ≠ h' → a + n ≤ a' ∨ a' + n' ≤ a) ∧
  (∀ j, (∀ h a n, dh_hd H G h a n → j < a ∨ a + n ≤ j) → C j = P j)
/-- no hook -/
def dh_fr (H : Nat → Int32) : Prop := ∀ h, h < 4 → H h = -1
theorem dh_m1 {a : Nat} (h : a ≤ 64) : nI a ≠ -1 := by
  intro e
  have h1 : ¬ nI a < 0 := nI_pos (by omega)
  rw [e] at h1
  exact h1 (by decide)
theorem dh_fr_no {H G : Nat → Int32} {h a n : Nat} (hf : dh_fr H) (x : dh_hd H G h a n) : False :=
  dh_m1 (a := a) (by have := x.2.2.2.2; omega) (x.2.1.symm.trans (hf h x.1))
theorem dh_ok_fr {l : Nat} {P S M A H G : Nat → Int32} (hw : dh_wf l P S) (hf : dh_fr H) : dh_ok l P P S M A H G :=
  ⟨hw, fun h hh => Or.inl (hf h hh), fun _ _ _ _ _ _ x _ _ => (dh_fr_no hf x).elim, fun _ _ => rfl⟩
theorem dh_fr_C {l : Nat} {P C S M A H G : Nat → Int32} (ok : dh_ok l P C S M A H G) (hf : dh_fr H) : C = P := by
  funext j
  exact ok.2.2.2 j (fun h a n x => (dh_fr_no hf x).elim)
theorem dh_ok_hk {l : Nat} {P C S M A H G : Nat → Int32} (ok : dh_ok l P C S M A H G) {h a n : Nat} (x : dh_hd H G h a n) : dh_hk l P C S M A h a n := by
  rcases ok.2.1 h x.1 with e | ⟨a', n', y, z⟩
  · exact absurd (x.2.1.symm.trans e) (dh_m1 (by have := x.2.2.2.2; omega))
  · obtain ⟨rfl, rfl⟩ := dh_hd_u x y
    exact z
end
section
section
variable {ln wA st pc dn en : Int32} {P C S M A H G T R K : Nat → Int32} {post : Int32 → Prop}
theorem dh_lengthOf {kd : Nat} (hk : kd < 9) (h : post (nI (dh_ln kd))) : wpX_lengthOf post (ln, wA, st, pc, dn, en, P, C, S, M, A, H, G, T, R, K) (nI kd) :=
  pk_eq kd 0 (fun e => by subst e; exact h) (fun e0 => pk_eq kd 7 (fun e => by subst e; exact h) (fun e7 => pk_eq kd 5 (fun e => by subst e; exact h) (fun e5 => by rw [dh_ln_2 e0 e5 e7] at h; exact h)))
theorem dh_fetchC {p : Int32} {j : Nat} (e : p = nI j) (hj : j < 64) (h : post (C j)) : wpX_fetch post (ln, wA, st, pc, dn, en, P, C, S, M, A, H, G, T, R, K) p := by
  subst e
  exact pk_lt j 512 (fun _ => pk_lt j 0 (fun z => absurd z (by omega)) (fun _ => pk_le 64 j (fun z => absurd z (by omega)) (fun _ => ⟨pk_in j 64 hj, by rw [nI_clamp (by omega)]; exact h⟩))) (fun z => absurd z (by omega))
theorem dh_512 (q : Nat) : nI (512 + q) - 512 = nI q := by
  have e := pk_sub (a := 512 + q) (b := 512) (by omega)
  rw [show 512 + q - 512 = q by omega] at e
  exact e
theorem dh_fetchA {p : Int32} {q : Nat} (e : p = nI (512 + q)) (hq : q < 64) (h : post (A q)) : wpX_fetch post (ln, wA, st, pc, dn, en, P, C, S, M, A, H, G, T, R, K) p := by
  subst e
  exact pk_lt (512 + q) 512 (fun z => absurd z (by omega)) (fun _ => nm_r (dh_512 q) (pk_le 64 q (fun z => absurd z (by omega)) (fun _ => ⟨pk_in q 64 hq, by rw [nI_clamp (by omega)]; exact h⟩)))
/-- a fetch whose answer isn't needed -/
theorem dh_fetchX {p : Int32} (h : ∀ v, post v) : wpX_fetch post (ln, wA, st, pc, dn, en, P, C, S, M, A, H, G, T, R, K) p := by
  by_cases h0 : p < 0
  · refine ⟨fun _ => ⟨fun _ => h _, fun z => absurd h0 z⟩, fun z => ?_⟩
    exfalso
    apply z
    rw [Int32.lt_iff_toInt_lt] at h0 ⊢
    rw [show (0 : Int32).toInt = 0 from by decide] at h0
    rw [show (512 : Int32).toInt = 512 from by decide]
    omega
  · obtain ⟨j, hj, rfl⟩ := nI_of h0
    refine pk_lt j 512 (fun _ => ⟨fun z => absurd z h0, fun _ => pk_le 64 j (fun _ => h _) (fun z => ⟨pk_in j 64 z, h _⟩)⟩) (fun g => ?_)
    obtain ⟨q, rfl⟩ : ∃ q, j = 512 + q := ⟨j - 512, by omega⟩
    exact nm_r (dh_512 q) (pk_le 64 q (fun _ => h _) (fun z => ⟨pk_in q 64 z, h _⟩))
theorem dh_fetchAdrC {p : Int32} {j : Nat} (e : p = nI j) (hj : j + 1 < 64) (h : post (dh_adr C j)) : wpX_fetchAddress post (ln, wA, st, pc, dn, en, P, C, S, M, A, H, G, T, R, K) p := by
  subst e
  unfold wpX_fetchAddress
  exact dh_fetchC rfl (by omega) (dh_fetchC (nI_1 j) hj h)
theorem dh_fetchAdrA {p : Int32} {q : Nat} (e : p = nI (512 + q)) (hj : q + 1 < 64) (h : post (dh_adr A q)) : wpX_fetchAddress post (ln, wA, st, pc, dn, en, P, C, S, M, A, H, G, T, R, K) p := by
  subst e
  unfold wpX_fetchAddress
  exact dh_fetchA rfl (by omega) (dh_fetchA (nI_1 (512 + q)) hj h)
theorem dh_signed {b : Int32} (h : post (dh_sg b)) : wpX_signed post (ln, wA, st, pc, dn, en, P, C, S, M, A, H, G, T, R, K) b := by
  unfold dh_sg at h
  refine ⟨fun z => ?_, fun z => ?_⟩
  · rw [if_pos z] at h
    exact h
  · rw [if_neg z] at h
    exact h
theorem dh_targetOf {x : Nat} (hx : x + dh_ln (dh_k P x) ≤ 64) (hk : P x = nI (dh_k P x)) (h9 : dh_k P x < 9) (h1 : 4 ≤ dh_k P x → dh_k P x ≤ 6 → post (dh_tg P x)) (h2 : ¬ (4 ≤ dh_k P x ∧ dh_k P x ≤ 6) → post (-1000)) :
    wpX_targetOf post (ln, wA, st, pc, dn, en, P, C, S, M, A, H, G, T, R, K) (nI x) := by
  have hp := dh_ln_pos (dh_k P x)
  refine ⟨pk_in x 64 (by omega), nm_r (e' := nI (dh_k P x)) (by rw [nI_clamp (by omega)]; exact hk) ?_⟩
  refine pk_lt (dh_k P x) 4 (fun z => h2 (by omega)) (fun z4 => pk_le (dh_k P x) 6 (fun z6 => ?_) (fun z => h2 (by omega)))
  refine dh_lengthOf h9 ?_
  have e : nI x + nI (dh_ln (dh_k P x)) - 1 = nI (x + dh_ln (dh_k P x) - 1) := by
    rw [nI_add]
    exact pk_sub (a := x + dh_ln (dh_k P x)) (b := 1) (by omega)
  have h1 := h1 z4 z6
  unfold dh_tg at h1
  refine ⟨pk_in _ 64 (by omega) e, nm_r (e' := P (x + dh_ln (dh_k P x) - 1)) (by rw [e, nI_clamp (by omega)]) ?_⟩
  unfold dh_sg at h1
  refine ⟨fun z => ?_, fun z => nm_e ?_⟩
  · rw [if_pos z] at h1
    exact h1
  · rw [if_neg z] at h1
    exact h1
/-- isStart -/
theorem dh_isStart {l : Nat} {p : Int32} (hl : l ≤ 64) (h1 : ∀ j, j < l → p = nI j → S j ≠ 0 → post 1) (h0 : (∀ j, j < l → p = nI j → S j = 0) → post 0) :
    wpX_isStart post (nI l, wA, st, pc, dn, en, P, C, S, M, A, H, G, T, R, K) p := by
  rcases pk_ix p (n := l) (by omega) with h | h | ⟨j, hj, rfl⟩
  · refine br_t h (h0 fun j hj e => ?_)
    rw [e] at h
    exact absurd h (nI_pos (by omega))
  · refine ⟨fun z => ?_, fun z => br_t h ?_⟩
    · refine h0 fun j hj e => ?_
      rw [e] at z
      exact absurd z (nI_pos (by omega))
    · refine h0 fun j hj e => ?_
      rw [e] at h
      exact absurd h (nI_ge hj (by omega))
  · refine br_f (nI_pos (by omega)) (br_f (nI_ge hj (by omega)) ⟨pk_in j 64 (by omega), ?_⟩)
    rw [nI_clamp (by omega)]
    refine ⟨fun z => h0 fun i hi e => ?_, fun z => h1 j hj rfl z⟩
    have : j = i := (nI_eq (by omega) (by omega)).mp e
    subst this
    exact z
/-- hooks(): 0 just where no hook is set -/
theorem dh_hooks (hH : ∀ h, h < 4 → H h = -1 ∨ ¬ H h < 0) (h0 : dh_fr H → post 0) (h1 : ¬ dh_fr H → ∀ c, 0 < c → c ≤ 4 → post (nI c)) :
    wpX_hooks post (ln, wA, st, pc, dn, en, P, C, S, M, A, H, G, T, R, K) := by
  have key : ∃ n, wX_hooks_4 post ln wA st pc dn en P C S M A H G T R K n (nI 0) (nI 0) := by
    refine pk_loop (fun n i (c : Nat) => wX_hooks_4 post ln wA st pc dn en P C S M A H G T R K n (nI c) (nI i)) (fun i c => c ≤ i ∧ (c = 0 ↔ ∀ h, h < i → H h = -1)) 4 0 0 (by omega) ⟨by omega, fun _ h z => absurd z (by omega), fun _ => rfl⟩ ?_ ?_
    · intro n c ⟨hc, hi⟩
      refine pk_le 4 4 (fun _ => ?_) (fun z => absurd z (by omega))
      by_cases h : c = 0
      · subst h
        exact h0 (hi.mp rfl)
      · exact h1 (fun z => h (hi.mpr z)) c (by omega) hc
    · intro n i c hi ⟨hc, hI⟩ hw
      refine pk_le 4 i (fun z => absurd z (by omega)) (fun _ => ⟨pk_in i 4 hi, ?_⟩)
      rw [nI_clamp (by omega)]
      rcases hH i hi with e | e
      · refine br_t (by rw [e]; decide) (nm_r (nI_1 i) (hw c ⟨by omega, fun z => lt_s (hI.mp z) e, fun z => hI.mpr fun h hh => z h (by omega)⟩))
      · refine br_f e (nm_r (nI_1 c) (nm_r (nI_1 i) (hw (c + 1) ⟨by omega, fun z => absurd z (by omega), fun z => ?_⟩)))
        exact absurd (by rw [z i (by omega)]; decide) e
  exact key
theorem dh_hooks_ok {l : Nat} (ok : dh_ok l P C S M A H G) (h0 : dh_fr H → post 0) (h1 : ¬ dh_fr H → ∀ c, 0 < c → c ≤ 4 → post (nI c)) :
    wpX_hooks post (ln, wA, st, pc, dn, en, P, C, S, M, A, H, G, T, R, K) := by
  refine dh_hooks (fun h hh => ?_) h0 h1
  rcases ok.2.1 h hh with e | ⟨a, n, x, _⟩
  · exact Or.inl e
  · refine Or.inr ?_
    rw [x.2.1]
    exact nI_pos (by have := x.2.2.2.2; omega)
/-- slotOf -/
theorem dh_slotOf {p : Int32} (h0 : (∀ h, h < 4 → H h ≠ p) → post (-1)) (h1 : ∀ h, h < 4 → H h = p → post (nI h)) :
    wpX_slotOf post (ln, wA, st, pc, dn, en, P, C, S, M, A, H, G, T, R, K) p := by
  have key : ∃ n, wX_slotOf_4 post p ln wA st pc dn en P C S M A H G T R K n (-1) (nI 0) := by
    refine pk_loop (fun n i (c : Int32) => wX_slotOf_4 post p ln wA st pc dn en P C S M A H G T R K n c (nI i)) (fun i c => (c = -1 ∧ ∀ h, h < i → H h ≠ p) ∨ ∃ h, h < 4 ∧ c = nI h ∧ H h = p) 4 0 (-1) (by omega) (Or.inl ⟨rfl, fun h z => absurd z (by omega)⟩) ?_ ?_
    · intro n c hc
      refine pk_le 4 4 (fun _ => ?_) (fun z => absurd z (by omega))
      rcases hc with ⟨rfl, hc⟩ | ⟨h, hh, rfl, hc⟩
      · exact h0 hc
      · exact h1 h hh hc
    · intro n i c hi hc hw
      refine pk_le 4 i (fun z => absurd z (by omega)) (fun _ => ⟨pk_in i 4 hi, ?_⟩)
      rw [nI_clamp (by omega)]
      refine ⟨fun z => nm_r (nI_1 i) (hw _ (Or.inr ⟨i, hi, rfl, z⟩)), fun z => nm_r (nI_1 i) (hw _ ?_)⟩
      rcases hc with ⟨e, hc⟩ | hc
      · exact Or.inl ⟨e, lt_s hc z⟩
      · exact Or.inr hc
  exact key
theorem dh_badReg {r : Nat} (hr : r < 4) (h : post 0) : wpX_badReg post (ln, wA, st, pc, dn, en, P, C, S, M, A, H, G, T, R, K) (nI r) :=
  pk_lt r 0 (fun z => absurd z (by omega)) (fun _ => pk_le r 3 (fun _ => h) (fun z => absurd z (by omega)))
theorem dh_register {r : Nat} (hr : r < 4) (h : post (R r)) : wpX_register post (ln, wA, st, pc, dn, en, P, C, S, M, A, H, G, T, R, K) (nI r) := by
  unfold wpX_register
  refine dh_badReg hr (br_t rfl ⟨pk_in r 4 hr, ?_⟩)
  rw [nI_clamp (by omega)]
  exact h
end
end
section
/-- the pure machine's state: pc, depth, stack, done, end, registers -/
abbrev dh_PS : Type := Int32 × Nat × (Nat → Int32) × Nat × Int32 × (Nat → Int32)
def dh_r (sec : Int32) : Nat := (sec &&& 3).toNatClampNeg
/-- what an instruction does (dn: the count with it); the kind last -/
def dh_ex (sec tg nx nw pc : Int32) (k : Nat) (sk : Nat → Int32) (dn : Nat) (R : Nat → Int32) : Nat → dh_PS
  | 0 => (pc, k, sk, dn, 1, R)
  | 1 => (nx, k, sk, dn, 0, upd R (dh_r sec) (R (dh_r sec) + 1))
  | 2 => (nx, k, sk, dn, 0, upd R (dh_r sec) (R (dh_r sec) - 1))
  | 3 => (nx, k, sk, dn, 0, upd R (dh_r sec) (R (dh_r (sec >>> ((2 : Int32) &&& 31)))))
  | 4 => (tg, k, sk, dn, 0, R)
  | 5 => if R (dh_r sec) = 0 then (nx, k, sk, dn, 0, R) else (tg, k, sk, dn, 0, R)
  | 6 => if k = 8 then (pc, k, sk, dn, 3, R) else (tg, k + 1, upd sk k nx, dn, 0, R)
  | 7 => if k = 0 then (pc, k, sk, dn, 1, R) else (sk (k - 1), k - 1, sk, dn, 0, R)
  | _ => (nx, k, sk, dn, 0, upd R (dh_r sec) nw)
/-- the object whose machine part is s -/
abbrev dh_mk (ln wA : Int32) (P C S M A H G T : Nat → Int32) (s : dh_PS) : St1 := (ln, wA, nI s.2.1, s.1, nI s.2.2.2.1, s.2.2.2.2.1, P, C, S, M, A, H, G, T, s.2.2.2.2.2, s.2.2.1)
theorem dh_rin (x : Int32) : vp_in (x &&& 3) 4 := pk_andIn x 2 (by decide) (by decide)
theorem dh_rlt (x : Int32) : dh_r x < 4 := by
  obtain ⟨j, hj, e⟩ := pk_andE x (m := 3) 2 (by decide)
  unfold dh_r
  rw [e, nI_clamp (by omega)]
  exact hj
section
variable {ln wA pc : Int32} {k dn : Nat} {P C S M A H G T R K : Nat → Int32} {post : St1 → Prop}
theorem dh_enter {back tg : Int32} (hk : k ≤ 8)
    (h : post (dh_mk ln wA P C S M A H G T (if k = 8 then (pc, k, K, dn, 3, R) else (tg, k + 1, upd K k back, dn, 0, R)))) :
    wpX_enter post (ln, wA, nI k, pc, nI dn, 0, P, C, S, M, A, H, G, T, R, K) back tg := by
  refine pk_eq k 8 (fun e => ?_) (fun e => ⟨pk_in k 8 (by omega), nm_r (by rw [nI_clamp (by omega)]) (nm_r (nI_1 k) ?_)⟩)
  · rw [if_pos e] at h
    exact h
  · rw [if_neg e] at h
    exact h
theorem dh_leave (hk : k ≤ 8)
    (h : post (dh_mk ln wA P C S M A H G T (if k = 0 then (pc, k, K, dn, 1, R) else (K (k - 1), k - 1, K, dn, 0, R)))) :
    wpX_leave post (ln, wA, nI k, pc, nI dn, 0, P, C, S, M, A, H, G, T, R, K) := by
  refine pk_eq k 0 (fun e => ?_) (fun e => nm_r (e' := nI (k - 1)) (pk_sub (a := k) (b := 1) (by omega)) ⟨pk_in (k - 1) 8 (by omega), nm_r (by rw [nI_clamp (by omega)]) ?_⟩)
  · rw [if_pos e] at h
    exact h
  · rw [if_neg e] at h
    exact h
/-- change(): kinds 1, 2, 3, 8 -/
theorem dh_change {kd : Nat} {sec nx : Int32} (hkd : kd = 1 ∨ kd = 2 ∨ kd = 3 ∨ kd = 8)
    (h : post (ln, wA, nI k, pc, nI dn, 0, P, C, S, M, A, H, G, T, (dh_ex sec 0 nx nx pc k K dn R kd).2.2.2.2.2, K)) :
    wpX_change post (ln, wA, nI k, pc, nI dn, 0, P, C, S, M, A, H, G, T, R, K) (nI kd) (sec &&& 3) sec nx := by
  rcases hkd with rfl | rfl | rfl | rfl
  · exact br_t rfl ⟨dh_rin sec, dh_rin sec, nm_e h⟩
  · exact br_f (by decide) (br_t rfl ⟨dh_rin sec, dh_rin sec, nm_e h⟩)
  · exact br_f (by decide) (br_f (by decide) (br_t rfl ⟨dh_rin _, dh_rin sec, nm_e h⟩))
  · exact br_f (by decide) (br_f (by decide) (br_f (by decide) ⟨dh_rin sec, nm_e h⟩))
/-- executePlain, where the kind and its bytes are fetched: p = pc; fetches as hypotheses -/
theorem dh_plain (kd : Nat) {sec thd tg nx nw : Int32} (hkd : kd < 9) (hk : k ≤ 8)
    (hnx : pc + nI (dh_ln kd) = nx)
    (hf1 : 1 < dh_ln kd → ∀ {ψ : Int32 → Prop}, ψ sec → wpX_fetch ψ (ln, wA, nI k, pc, nI dn, 0, P, C, S, M, A, H, G, T, R, K) (pc + 1))
    (hf2 : kd = 5 → ∀ {ψ : Int32 → Prop}, ψ thd → wpX_fetch ψ (ln, wA, nI k, pc, nI dn, 0, P, C, S, M, A, H, G, T, R, K) (pc + 2))
    (htg : kd = 4 ∨ kd = 6 → nx + dh_sg sec = tg) (htg5 : kd = 5 → nx + dh_sg thd = tg) (hnw : kd = 8 → nx = nw)
    (h : post (dh_mk ln wA P C S M A H G T (dh_ex sec tg nx nw pc k K dn R kd))) :
    wpX_executePlain post (ln, wA, nI k, pc, nI dn, 0, P, C, S, M, A, H, G, T, R, K) (nI kd) := by
  unfold wpX_executePlain
  refine dh_lengthOf hkd (nm_r hnx ?_)
  revert kd
  refine dh_lt9 ?_ ?_ ?_ ?_ ?_ ?_ ?_ ?_ ?_
  · intro hnx hf1 hf2 htg htg5 hnw h
    exact dh_fetchX fun v => nm_e (br_t rfl h)
  · intro hnx hf1 hf2 htg htg5 hnw h
    exact hf1 (by decide) (nm_e (br_f (by decide) (br_f (by decide) (br_f (by decide) (br_f (by decide) (br_f (by decide) (dh_change (kd := 1) (by decide) h)))))))
  · intro hnx hf1 hf2 htg htg5 hnw h
    exact hf1 (by decide) (nm_e (br_f (by decide) (br_f (by decide) (br_f (by decide) (br_f (by decide) (br_f (by decide) (dh_change (kd := 2) (by decide) h)))))))
  · intro hnx hf1 hf2 htg htg5 hnw h
    exact hf1 (by decide) (nm_e (br_f (by decide) (br_f (by decide) (br_f (by decide) (br_f (by decide) (br_f (by decide) (dh_change (kd := 3) (by decide) h)))))))
  · intro hnx hf1 hf2 htg htg5 hnw h
    exact hf1 (by decide) (nm_e (br_f (by decide) (br_f (by decide) (br_t rfl (dh_signed (nm_r (htg (Or.inl rfl)) h))))))
  · intro hnx hf1 hf2 htg htg5 hnw h
    refine hf1 (by decide) (nm_e (br_f (by decide) (br_f (by decide) (br_f (by decide) (br_t rfl (hf2 rfl (dh_signed ⟨dh_rin sec, fun z => ?_, fun z => nm_r (htg5 rfl) ?_⟩)))))))
    · have e : dh_ex sec tg nx nw pc k K dn R 5 = (nx, k, K, dn, 0, R) := if_pos z
      rw [e] at h
      exact h
    · have e : dh_ex sec tg nx nw pc k K dn R 5 = (tg, k, K, dn, 0, R) := if_neg z
      rw [e] at h
      exact h
  · intro hnx hf1 hf2 htg htg5 hnw h
    refine hf1 (by decide) (nm_e (br_f (by decide) (br_f (by decide) (br_f (by decide) (br_f (by decide) (br_t rfl (dh_signed ?_)))))))
    rw [htg (Or.inr rfl)]
    exact dh_enter hk h
  · intro hnx hf1 hf2 htg htg5 hnw h
    exact dh_fetchX fun v => nm_e (br_f (by decide) (br_t rfl (dh_leave hk h)))
  · intro hnx hf1 hf2 htg htg5 hnw h
    have e := hnw rfl
    subst e
    exact hf1 (by decide) (nm_e (br_f (by decide) (br_f (by decide) (br_f (by decide) (br_f (by decide) (br_f (by decide) (dh_change (kd := 8) (by decide) h)))))))
end
end
section
section
variable {ln wA : Int32} {k dn : Nat} {P C S M A H G T R K : Nat → Int32} {post : St1 → Prop}
theorem dh_p1 (q : Nat) : nI (512 + q) + 1 = nI (512 + (q + 1)) := nI_1 (512 + q)
theorem dh_p2 (q : Nat) : nI (512 + q) + 2 = nI (512 + (q + 2)) := nI_add (512 + q) 2
theorem dh_p3 (q : Nat) : nI (512 + q) + 3 = nI (512 + q + 3) := nI_add (512 + q) 3
theorem dh_p4 (q : Nat) : nI (512 + q) + 4 = nI (512 + q + 4) := nI_add (512 + q) 4
/-- one plain instruction -/
theorem dh_exP {kd x : Nat} {sec tg : Int32} (hkd : kd < 9) (hk : k ≤ 8) (hx : x + dh_ln kd ≤ 64) (h0 : C x = nI kd)
    (h1 : 1 < dh_ln kd → C (x + 1) = sec) (htg : 4 ≤ kd → kd ≤ 6 → tg = nI x + nI (dh_ln kd) + dh_sg (C (x + dh_ln kd - 1)))
    (h : post (dh_mk ln wA P C S M A H G T (dh_ex sec tg (nI (x + dh_ln kd)) (nI (x + 2)) (nI x) k K (dn + 1) R kd))) :
    wpX_execute post (ln, wA, nI k, nI x, nI dn, 0, P, C, S, M, A, H, G, T, R, K) := by
  have hp := dh_ln_pos kd
  unfold wpX_execute
  refine dh_fetchC rfl (by omega) ?_
  rw [h0]
  refine pk_eq kd 9 (fun z => absurd z (by omega)) (fun _ => pk_eq kd 10 (fun z => absurd z (by omega)) (fun _ => nm_r (nI_1 dn) (pk_lt kd 11 (fun _ => ?_) (fun z => absurd z (by omega)))))
  refine dh_plain kd (sec := sec) (thd := C (x + 2)) (tg := tg) (nx := nI (x + dh_ln kd)) (nw := nI (x + 2)) hkd hk (nI_add x (dh_ln kd)) ?_ ?_ ?_ ?_ ?_ h
  · intro hl ψ hψ
    exact dh_fetchC (nI_1 x) (by omega) (by rw [h1 hl]; exact hψ)
  · intro e ψ hψ
    subst e
    exact dh_fetchC (nI_add x 2) (by have : dh_ln 5 = 3 := rfl; omega) hψ
  · intro e
    have hl : dh_ln kd = 2 := by rcases e with rfl | rfl <;> rfl
    have ht := htg (by omega) (by omega)
    rw [hl] at ht
    have e1 : C (x + 2 - 1) = sec := by rw [show x + 2 - 1 = x + 1 by omega]; exact h1 (by omega)
    rw [e1, nI_add] at ht
    rw [hl]
    exact ht.symm
  · intro e
    subst e
    have ht := htg (by omega) (by omega)
    rw [nI_add] at ht
    exact ht.symm
  · intro e
    subst e
    rfl
/-- FAR in the code -/
theorem dh_exFarC {st dn en : Int32} {x : Nat} {v : Int32} (hx : x + 2 < 64) (h0 : C x = 9) (h1 : dh_adr C (x + 1) = v) (h : post (ln, wA, st, v, dn, en, P, C, S, M, A, H, G, T, R, K)) :
    wpX_execute post (ln, wA, st, nI x, dn, en, P, C, S, M, A, H, G, T, R, K) := by
  unfold wpX_execute
  refine dh_fetchC rfl (by omega) (br_t h0 (dh_fetchAdrC (nI_1 x) (by omega) ?_))
  rw [h1]
  exact h
/-- FAR in the area -/
theorem dh_exFarA {st dn en : Int32} {q : Nat} {v : Int32} (hq : q + 2 < 64) (h0 : A q = 9) (h1 : dh_adr A (q + 1) = v) (h : post (ln, wA, st, v, dn, en, P, C, S, M, A, H, G, T, R, K)) :
    wpX_execute post (ln, wA, st, nI (512 + q), dn, en, P, C, S, M, A, H, G, T, R, K) := by
  unfold wpX_execute
  refine dh_fetchA rfl (by omega) (br_t h0 (dh_fetchAdrA (dh_p1 q) (by omega) ?_))
  rw [h1]
  exact h
/-- COUNT -/
theorem dh_exCount {st dn en : Int32} {q : Nat} (hq : q + 2 < 64) (h0 : A q = 10) (h : ∀ T', post (ln, wA, st, nI (512 + (q + 2)), dn, en, P, C, S, M, A, H, G, T', R, K)) :
    wpX_execute post (ln, wA, st, nI (512 + q), dn, en, P, C, S, M, A, H, G, T, R, K) := by
  unfold wpX_execute
  exact dh_fetchA rfl (by omega) (br_f (by rw [h0]; decide) (br_t h0 (dh_fetchX fun v => nm_e ⟨dh_rin v, dh_rin v, fun T' _ => nm_r (dh_p2 q) (h T')⟩)))
/-- one relocated instruction -/
theorem dh_exA {q : Nat} {sec tg nw : Int32} (hk : k ≤ 8) : ∀ kd, kd < 9 → q + dh_al kd ≤ 64 → dh_enc A q sec tg nw kd →
    post (dh_mk ln wA P C S M A H G T (dh_ex sec tg (nI (512 + q + dh_al kd)) nw (nI (512 + q)) k K (dn + 1) R kd)) →
    wpX_execute post (ln, wA, nI k, nI (512 + q), nI dn, 0, P, C, S, M, A, H, G, T, R, K) := by
  refine dh_lt9 ?_ ?_ ?_ ?_ ?_ ?_ ?_ ?_ ?_
  · intro hq e h
    unfold wpX_execute
    refine dh_fetchA rfl (show q < 64 from by have : q + 1 ≤ 64 := hq; omega) ?_
    rw [show A q = nI 0 from e]
    refine br_f (by decide) (br_f (by decide) (nm_r (nI_1 dn) (br_t (by decide) ?_)))
    exact dh_plain 0 (sec := sec) (thd := 0) (tg := tg) (nx := nI (512 + q + 1)) (nw := nw) (by decide) hk (nI_1 _) (fun z => absurd z (by decide)) (fun z => absurd z (by decide)) (fun z => absurd z (by decide)) (fun z => absurd z (by decide)) (fun z => absurd z (by decide)) h
  · intro hq e h
    have hq : q + 2 ≤ 64 := hq
    unfold wpX_execute
    refine dh_fetchA rfl (by omega) ?_
    rw [show A q = nI 1 from e.1]
    refine br_f (by decide) (br_f (by decide) (nm_r (nI_1 dn) (br_t (by decide) ?_)))
    exact dh_plain 1 (sec := sec) (thd := 0) (tg := tg) (nx := nI (512 + q + 2)) (nw := nw) (by decide) hk (nI_add _ 2) (fun _ {ψ} hψ => dh_fetchA (dh_p1 q) (by omega) (by rw [e.2]; exact hψ)) (fun z => absurd z (by decide)) (fun z => absurd z (by decide)) (fun z => absurd z (by decide)) (fun z => absurd z (by decide)) h
  · intro hq e h
    have hq : q + 2 ≤ 64 := hq
    unfold wpX_execute
    refine dh_fetchA rfl (by omega) ?_
    rw [show A q = nI 2 from e.1]
    refine br_f (by decide) (br_f (by decide) (nm_r (nI_1 dn) (br_t (by decide) ?_)))
    exact dh_plain 2 (sec := sec) (thd := 0) (tg := tg) (nx := nI (512 + q + 2)) (nw := nw) (by decide) hk (nI_add _ 2) (fun _ {ψ} hψ => dh_fetchA (dh_p1 q) (by omega) (by rw [e.2]; exact hψ)) (fun z => absurd z (by decide)) (fun z => absurd z (by decide)) (fun z => absurd z (by decide)) (fun z => absurd z (by decide)) h
  · intro hq e h
    have hq : q + 2 ≤ 64 := hq
    unfold wpX_execute
    refine dh_fetchA rfl (by omega) ?_
    rw [show A q = nI 3 from e.1]
    refine br_f (by decide) (br_f (by decide) (nm_r (nI_1 dn) (br_t (by decide) ?_)))
    exact dh_plain 3 (sec := sec) (thd := 0) (tg := tg) (nx := nI (512 + q + 2)) (nw := nw) (by decide) hk (nI_add _ 2) (fun _ {ψ} hψ => dh_fetchA (dh_p1 q) (by omega) (by rw [e.2]; exact hψ)) (fun z => absurd z (by decide)) (fun z => absurd z (by decide)) (fun z => absurd z (by decide)) (fun z => absurd z (by decide)) h
  · intro hq e h
    have hq : q + 3 ≤ 64 := hq
    unfold wpX_execute
    refine dh_fetchA rfl (by omega) ?_
    rw [show A q = nI 14 from e.1]
    refine br_f (by decide) (br_f (by decide) (nm_r (nI_1 dn) (br_f (by decide) ?_)))
    unfold wpX_executeFar
    refine br_t rfl (dh_fetchAdrA (dh_p1 q) (by omega) ?_)
    rw [e.2]
    exact h
  · intro hq e h
    have hq : q + 4 ≤ 64 := hq
    unfold wpX_execute
    refine dh_fetchA rfl (by omega) ?_
    rw [show A q = nI 11 from e.1]
    refine br_f (by decide) (br_f (by decide) (nm_r (nI_1 dn) (br_f (by decide) ?_)))
    unfold wpX_executeFar
    refine br_f (by decide) (br_f (by decide) (dh_fetchA (dh_p1 q) (by omega) ?_))
    rw [e.2.1]
    refine nm_e (dh_fetchAdrA (dh_p2 q) (by omega) ?_)
    rw [e.2.2]
    refine nm_r (dh_p4 q) (br_f (by decide) ⟨dh_rin sec, fun z => ?_, fun z => ?_⟩)
    · have e : dh_ex sec tg (nI (512 + q + dh_al 5)) nw (nI (512 + q)) k K (dn + 1) R 5 = (nI (512 + q + 4), k, K, dn + 1, 0, R) := if_pos z
      rw [e] at h
      exact h
    · have e : dh_ex sec tg (nI (512 + q + dh_al 5)) nw (nI (512 + q)) k K (dn + 1) R 5 = (tg, k, K, dn + 1, 0, R) := if_neg z
      rw [e] at h
      exact h
  · intro hq e h
    have hq : q + 3 ≤ 64 := hq
    unfold wpX_execute
    refine dh_fetchA rfl (by omega) ?_
    rw [show A q = nI 12 from e.1]
    refine br_f (by decide) (br_f (by decide) (nm_r (nI_1 dn) (br_f (by decide) ?_)))
    unfold wpX_executeFar
    refine br_f (by decide) (br_t rfl (dh_fetchAdrA (dh_p1 q) (by omega) ?_))
    rw [e.2, dh_p3 q]
    exact dh_enter hk h
  · intro hq e h
    unfold wpX_execute
    refine dh_fetchA rfl (show q < 64 from by have : q + 1 ≤ 64 := hq; omega) ?_
    rw [show A q = nI 7 from e]
    refine br_f (by decide) (br_f (by decide) (nm_r (nI_1 dn) (br_t (by decide) ?_)))
    exact dh_plain 7 (sec := sec) (thd := 0) (tg := tg) (nx := nI (512 + q + 1)) (nw := nw) (by decide) hk (nI_1 _) (fun z => absurd z (by decide)) (fun z => absurd z (by decide)) (fun z => absurd z (by decide)) (fun z => absurd z (by decide)) (fun z => absurd z (by decide)) h
  · intro hq e h
    have hq : q + 4 ≤ 64 := hq
    unfold wpX_execute
    refine dh_fetchA rfl (by omega) ?_
    rw [show A q = nI 13 from e.1]
    refine br_f (by decide) (br_f (by decide) (nm_r (nI_1 dn) (br_f (by decide) ?_)))
    unfold wpX_executeFar
    refine br_f (by decide) (br_f (by decide) (dh_fetchA (dh_p1 q) (by omega) ?_))
    rw [e.2.1]
    refine nm_e (dh_fetchAdrA (dh_p2 q) (by omega) ?_)
    rw [e.2.2]
    exact nm_r (dh_p4 q) (br_t rfl ⟨dh_rin sec, nm_e h⟩)
end
end
section
/-! the pure machine and the relation of the two pcs -/
def dh_st (l : Nat) (S : Nat → Int32) (p : Int32) : Bool := decide (¬ p < 0) && decide (¬ nI l ≤ p) && decide (S p.toNatClampNeg ≠ 0)
theorem dh_st_y {l : Nat} {S : Nat → Int32} {j : Nat} (hl : l ≤ 64) (hj : j < l) (hs : S j ≠ 0) : dh_st l S (nI j) = true := by
  unfold dh_st
  rw [nI_clamp (by omega), decide_eq_true (nI_pos (by omega)), decide_eq_true (nI_ge hj (by omega)), decide_eq_true hs]
  rfl
theorem dh_st_n {l : Nat} {S : Nat → Int32} {p : Int32} (hl : l ≤ 64) (h : ∀ j, j < l → p = nI j → S j = 0) : dh_st l S p = false := by
  unfold dh_st
  rcases pk_ix p (n := l) (by omega) with z | z | ⟨j, hj, rfl⟩
  · rw [decide_eq_false (fun y => y z)]
    rfl
  · rw [decide_eq_false (p := ¬ nI l ≤ p) (fun y => y z), Bool.and_false]
    rfl
  · have hz := h j hj rfl
    rw [nI_clamp (by omega), decide_eq_false (p := S j ≠ 0) (fun y => y hz), Bool.and_false]
/-- one step of the pure machine -/
def dh_ps (l : Nat) (P S : Nat → Int32) (s : dh_PS) : dh_PS :=
  if s.2.2.2.2.1 ≠ 0 then s
  else if s.2.2.2.1 = 200 then (s.1, s.2.1, s.2.2.1, s.2.2.2.1, 4, s.2.2.2.2.2)
  else if dh_st l S s.1 = true then dh_ex (P (s.1.toNatClampNeg + 1)) (dh_tg P s.1.toNatClampNeg) (nI (s.1.toNatClampNeg + dh_ln (dh_k P s.1.toNatClampNeg))) (nI (s.1.toNatClampNeg + 2)) s.1 s.2.1 s.2.2.1 (s.2.2.2.1 + 1) s.2.2.2.2.2 (dh_k P s.1.toNatClampNeg)
  else (s.1, s.2.1, s.2.2.1, s.2.2.2.1, 2, s.2.2.2.2.2)
theorem dh_ps_end {l : Nat} {P S : Nat → Int32} {s : dh_PS} (h : s.2.2.2.2.1 ≠ 0) : dh_ps l P S s = s := if_pos h
theorem dh_ps_tired {l : Nat} {P S : Nat → Int32} {pc : Int32} {k : Nat} {sk R : Nat → Int32} : dh_ps l P S (pc, k, sk, 200, 0, R) = (pc, k, sk, 200, 4, R) := by
  unfold dh_ps
  rw [if_neg (fun z => z rfl), if_pos rfl]
theorem dh_ps_bad {l : Nat} {P S : Nat → Int32} {pc : Int32} {k dn : Nat} {sk R : Nat → Int32} (hd : dn ≠ 200) (h : dh_st l S pc = false) : dh_ps l P S (pc, k, sk, dn, 0, R) = (pc, k, sk, dn, 2, R) := by
  unfold dh_ps
  rw [if_neg (fun z => z rfl), if_neg hd, if_neg]
  intro z
  have z : dh_st l S pc = true := z
  rw [h] at z
  exact absurd z (by decide)
theorem dh_ps_ex {l : Nat} {P S : Nat → Int32} {x k dn : Nat} {sk R : Nat → Int32} (hl : l ≤ 64) (hd : dn ≠ 200) (hx : x < l) (hs : S x ≠ 0) :
    dh_ps l P S (nI x, k, sk, dn, 0, R) = dh_ex (P (x + 1)) (dh_tg P x) (nI (x + dh_ln (dh_k P x))) (nI (x + 2)) (nI x) k sk (dn + 1) R (dh_k P x) := by
  unfold dh_ps
  rw [if_neg (fun z => z rfl), if_neg hd, if_pos (dh_st_y hl hx hs)]
  show dh_ex (P ((nI x).toNatClampNeg + 1)) _ _ _ _ _ _ _ _ _ = _
  rw [nI_clamp (show x < 2 ^ 31 by omega)]
def dh_it (l : Nat) (P S : Nat → Int32) : Nat → dh_PS → dh_PS
  | 0, s => s
  | t + 1, s => dh_ps l P S (dh_it l P S t s)
theorem dh_it_end {l : Nat} {P S : Nat → Int32} {s : dh_PS} {t : Nat} (h : (dh_it l P S t s).2.2.2.2.1 ≠ 0) : ∀ d, dh_it l P S (t + d) s = dh_it l P S t s := by
  intro d
  induction d with
  | zero => rfl
  | succ d ih =>
    show dh_ps l P S (dh_it l P S (t + d) s) = _
    rw [ih]
    exact dh_ps_end h
/-- terminal states are one -/
theorem dh_it_u {l : Nat} {P S : Nat → Int32} {s : dh_PS} {t t' : Nat} (h : (dh_it l P S t s).2.2.2.2.1 ≠ 0) (h' : (dh_it l P S t' s).2.2.2.2.1 ≠ 0) : dh_it l P S t s = dh_it l P S t' s := by
  rcases Nat.le_total t t' with z | z
  · have e := dh_it_end h (t' - t)
    rw [show t + (t' - t) = t' by omega] at e
    exact e.symm
  · have e := dh_it_end h' (t - t')
    rw [show t' + (t - t') = t by omega] at e
    exact e
/-- two machine states alike but for the addresses -/
def dh_rel (Rs : Int32 → Int32 → Prop) (sm sn : dh_PS) : Prop := sm.2.1 = sn.2.1 ∧ sn.2.1 ≤ 8 ∧ (∀ j, j < sn.2.1 → Rs (sm.2.2.1 j) (sn.2.2.1 j)) ∧ sm.2.2.2.1 = sn.2.2.2.1 ∧ sm.2.2.2.2.1 = sn.2.2.2.2.1 ∧ sm.2.2.2.2.2 = sn.2.2.2.2.2
theorem dh_ex5 (sec tg nx nw pc : Int32) (k : Nat) (sk : Nat → Int32) (dn : Nat) (R : Nat → Int32) : dh_ex sec tg nx nw pc k sk dn R 5 = if R (dh_r sec) = 0 then (nx, k, sk, dn, 0, R) else (tg, k, sk, dn, 0, R) := rfl
theorem dh_ex6 (sec tg nx nw pc : Int32) (k : Nat) (sk : Nat → Int32) (dn : Nat) (R : Nat → Int32) : dh_ex sec tg nx nw pc k sk dn R 6 = if k = 8 then (pc, k, sk, dn, 3, R) else (tg, k + 1, upd sk k nx, dn, 0, R) := rfl
theorem dh_ex7 (sec tg nx nw pc : Int32) (k : Nat) (sk : Nat → Int32) (dn : Nat) (R : Nat → Int32) : dh_ex sec tg nx nw pc k sk dn R 7 = if k = 0 then (pc, k, sk, dn, 1, R) else (sk (k - 1), k - 1, sk, dn, 0, R) := rfl
theorem dh_sim {Rs : Int32 → Int32 → Prop} {sec tg nxm nxn nw pcm pcn : Int32} {k dn : Nat} {K sk R : Nat → Int32} (hk : k ≤ 8) (hst : ∀ j, j < k → Rs (K j) (sk j)) (hnx : Rs nxm nxn) :
    ∀ kd, kd < 9 → (4 ≤ kd → kd ≤ 6 → Rs tg tg) →
    dh_rel Rs (dh_ex sec tg nxm nw pcm k K dn R kd) (dh_ex sec tg nxn nw pcn k sk dn R kd) ∧ ((dh_ex sec tg nxn nw pcn k sk dn R kd).2.2.2.2.1 = 0 → Rs (dh_ex sec tg nxm nw pcm k K dn R kd).1 (dh_ex sec tg nxn nw pcn k sk dn R kd).1) ∧ (dh_ex sec tg nxn nw pcn k sk dn R kd).2.2.2.1 = dn := by
  refine dh_lt9 ?_ ?_ ?_ ?_ ?_ ?_ ?_ ?_ ?_
  · intro _
    exact ⟨⟨rfl, hk, hst, rfl, rfl, rfl⟩, fun z => absurd (show (1 : Int32) = 0 from z) (by decide), rfl⟩
  · intro _
    exact ⟨⟨rfl, hk, hst, rfl, rfl, rfl⟩, fun _ => hnx, rfl⟩
  · intro _
    exact ⟨⟨rfl, hk, hst, rfl, rfl, rfl⟩, fun _ => hnx, rfl⟩
  · intro _
    exact ⟨⟨rfl, hk, hst, rfl, rfl, rfl⟩, fun _ => hnx, rfl⟩
  · intro htg
    exact ⟨⟨rfl, hk, hst, rfl, rfl, rfl⟩, fun _ => htg (by omega) (by omega), rfl⟩
  · intro htg
    rw [dh_ex5, dh_ex5]
    by_cases z : R (dh_r sec) = 0
    · rw [if_pos z, if_pos z]
      exact ⟨⟨rfl, hk, hst, rfl, rfl, rfl⟩, fun _ => hnx, rfl⟩
    · rw [if_neg z, if_neg z]
      exact ⟨⟨rfl, hk, hst, rfl, rfl, rfl⟩, fun _ => htg (by omega) (by omega), rfl⟩
  · intro htg
    rw [dh_ex6, dh_ex6]
    by_cases z : k = 8
    · rw [if_pos z, if_pos z]
      exact ⟨⟨rfl, hk, hst, rfl, rfl, rfl⟩, fun z => absurd (show (3 : Int32) = 0 from z) (by decide), rfl⟩
    · rw [if_neg z, if_neg z]
      refine ⟨⟨rfl, (by omega : k + 1 ≤ 8), fun j hj => ?_, rfl, rfl, rfl⟩, fun _ => htg (by omega) (by omega), rfl⟩
      have hj : j < k + 1 := hj
      show Rs (upd K k nxm j) (upd sk k nxn j)
      by_cases e : j = k
      · subst e
        rw [pk_us, pk_us]
        exact hnx
      · rw [pk_un e, pk_un e]
        exact hst j (by omega)
  · intro _
    rw [dh_ex7, dh_ex7]
    by_cases z : k = 0
    · rw [if_pos z, if_pos z]
      exact ⟨⟨rfl, hk, hst, rfl, rfl, rfl⟩, fun z => absurd (show (1 : Int32) = 0 from z) (by decide), rfl⟩
    · rw [if_neg z, if_neg z]
      refine ⟨⟨rfl, (by omega : k - 1 ≤ 8), fun j hj => hst j ?_, rfl, rfl, rfl⟩, fun _ => hst (k - 1) (by omega), rfl⟩
      have hj : j < k - 1 := hj
      omega
  · intro _
    exact ⟨⟨rfl, hk, hst, rfl, rfl, rfl⟩, fun _ => hnx, rfl⟩
/-- a plain address that isn't behind a head's begin -/
def dh_gd (l : Nat) (S H G : Nat → Int32) (p : Int32) : Prop := p < 512 ∧ ∀ j, j < l → p = nI j → S j ≠ 0 → ∀ h a n, dh_hd H G h a n → j ≤ a ∨ a + n ≤ j
/-- the pcs of the hooked and of the plain machine; s: how many silent steps may lie ahead -/
def dh_rl (l : Nat) (P S M A H G : Nat → Int32) (s : Nat) (pm pn : Int32) : Prop :=
  (s = 2 ∧ pm = pn ∧ dh_gd l S H G pn) ∨
  (s = 1 ∧ ∃ h a n, dh_hd H G h a n ∧ pm = nI (512 + 16 * h) ∧ pn = nI a) ∨
  (s = 3 ∧ ∃ h a n q x, dh_hd H G h a n ∧ dh_ch P S M A (16 * h + 16) (a + n) 0 q x ∧ pm = nI (512 + q) ∧ pn = nI x) ∨
  (s = 0 ∧ ∃ h a n i q x, dh_hd H G h a n ∧ dh_ch P S M A (16 * h + 16) (a + n) (i + 1) q x ∧ pm = nI (512 + q) ∧ pn = nI x)
def dh_rs (l : Nat) (P S M A H G : Nat → Int32) (pm pn : Int32) : Prop := ∃ s, s ≤ 3 ∧ dh_rl l P S M A H G s pm pn
section
variable {l : Nat} {P C S M A H G : Nat → Int32}
theorem dh_rs_ch {h a n i q x : Nat} (hh : dh_hd H G h a n) (hc : dh_ch P S M A (16 * h + 16) (a + n) i q x) : dh_rs l P S M A H G (nI (512 + q)) (nI x) := by
  cases i with
  | zero => exact ⟨3, by omega, Or.inr (Or.inr (Or.inl ⟨rfl, h, a, n, q, x, hh, hc, rfl, rfl⟩))⟩
  | succ i => exact ⟨0, by omega, Or.inr (Or.inr (Or.inr ⟨rfl, h, a, n, i, q, x, hh, hc, rfl, rfl⟩))⟩
theorem dh_gd_tg (ok : dh_ok l P C S M A H G) {x : Nat} (hx : x < l) (hs : S x ≠ 0) (h4 : 4 ≤ dh_k P x) (h6 : dh_k P x ≤ 6) : dh_gd l S H G (dh_tg P x) := by
  refine ⟨(dh_tg_b ok.1 hx hs h4 h6).1, fun j hj e hsj h a n hh => ?_⟩
  have hl := ok.1.1
  have h64 := hh.2.2.2.2
  rcases (dh_ok_hk ok hh).2.2.2.2.2.2 x hx hs h4 h6 with z | z
  · rw [e] at z
    exact Or.inl ((nI_leI (by omega) (by omega)).mp z)
  · rw [e] at z
    exact Or.inr ((nI_leI (by omega) (by omega)).mp z)
theorem dh_512lt {x : Nat} (h : x < 512) : nI x < 512 := nI_lt (b := 512) h (by omega)
theorem dh_gd_nx (ok : dh_ok l P C S M A H G) {x : Nat} (hx : x < l) (hs : S x ≠ 0) (ho : ∀ h a n, dh_hd H G h a n → x < a ∨ a + n ≤ x) : dh_gd l S H G (nI (x + dh_ln (dh_k P x))) := by
  have hl := ok.1.1
  have hw := ok.1.2 x hx hs
  have h1 := hw.2.2.1
  refine ⟨dh_512lt (by omega), fun j hj e hsj h a n hh => ?_⟩
  have e : x + dh_ln (dh_k P x) = j := (nI_eq (by omega) (by omega)).mp e
  rcases ho h a n hh with z | z
  · refine Or.inl ?_
    rcases Nat.lt_or_ge a j with y | y
    · exact absurd (hw.2.2.2.2.1 a z (by omega)) (dh_ok_hk ok hh).2.1
    · exact y
  · exact Or.inr (by omega)
theorem dh_gd_e (ok : dh_ok l P C S M A H G) {h a n : Nat} (hh : dh_hd H G h a n) : dh_gd l S H G (nI (a + n)) := by
  have h64 := hh.2.2.2.2
  have hl := ok.1.1
  refine ⟨dh_512lt (by omega), fun j hj e hsj h' a' n' hh' => ?_⟩
  have e : a + n = j := (nI_eq (by omega) (by omega)).mp e
  by_cases z : h = h'
  · subst z
    obtain ⟨rfl, rfl⟩ := dh_hd_u hh hh'
    exact Or.inr (by omega)
  · rcases ok.2.2.1 h a n h' a' n' hh hh' z with y | y
    · exact Or.inl (by omega)
    · exact Or.inr (by omega)
/-- outside the heads the code is the plain one -/
theorem dh_code (ok : dh_ok l P C S M A H G) {x : Nat} (hx : x < l) (hs : S x ≠ 0) (ho : ∀ h a n, dh_hd H G h a n → x < a ∨ a + n ≤ x) : ∀ d, d < dh_ln (dh_k P x) → C (x + d) = P (x + d) := by
  intro d hd
  refine ok.2.2.2 (x + d) (fun h a n hh => ?_)
  rcases ho h a n hh with z | z
  · refine Or.inl ?_
    rcases Nat.lt_or_ge (x + d) a with y | y
    · exact y
    · exact absurd ((ok.1.2 x hx hs).2.2.2.2.1 a z (by omega)) (dh_ok_hk ok hh).2.1
  · exact Or.inr (by omega)
end
end
section
section
variable {l : Nat} {wA : Int32} {P C S M A H G : Nat → Int32}
theorem dh_nle {p : Int32} (h : p < 512) : ¬ (512 : Int32) ≤ p := by
  rw [Int32.lt_iff_toInt_lt] at h
  rw [Int32.le_iff_toInt_le]
  omega
/-- run's loop: it ends in the pure machine's terminal state -/
theorem dh_run38 {post : Int32 → St1 → Prop} (ok : dh_ok l P C S M A H G) (s0 : dh_PS)
    (hp : ∀ (t : Nat) (T' : Nat → Int32) (st pcm : Int32) (K' : Nat → Int32) (s' : dh_PS), s' = dh_it l P S t s0 → s'.2.2.2.2.1 ≠ 0 → post s'.2.2.2.2.1 (nI l, wA, st, pcm, nI s'.2.2.2.1, s'.2.2.2.2.1, P, C, S, M, A, H, G, T', s'.2.2.2.2.2, K')) :
    ∀ (f i t : Nat) (T : Nat → Int32) (sm sn : dh_PS), 1000 < f + i → i ≤ 1000 → sn = dh_it l P S t s0 → dh_rel (dh_rs l P S M A H G) sm sn → sn.2.2.2.1 ≤ 200 →
      (sn.2.2.2.2.1 = 0 → ∃ s, dh_rl l P S M A H G s sm.1 sn.1 ∧ i + s ≤ 4 * sn.2.2.2.1 + 3) →
      wX_run_38 post f (nI i) (nI l) wA (nI sm.2.1) sm.1 (nI sm.2.2.2.1) sm.2.2.2.2.1 P C S M A H G T sm.2.2.2.2.2 sm.2.2.1 := by
  intro f
  induction f with
  | zero => intro i t T sm sn h1 h2; omega
  | succ f ih =>
    intro i t T sm sn h1 h2 hs hrel hdn hσ
    obtain ⟨pm, k, K, dn, en, R⟩ := sm
    obtain ⟨pn, k', sk, dn', en', R'⟩ := sn
    obtain ⟨e1, hk, hst, e2, e3, e4⟩ := hrel
    have e1 : k = k' := e1
    have e2 : dn = dn' := e2
    have e3 : en = en' := e3
    have e4 : R = R' := e4
    subst e1 e2 e3 e4
    have hk : k ≤ 8 := hk
    have hst : ∀ j, j < k → dh_rs l P S M A H G (K j) (sk j) := hst
    have hdn : dn ≤ 200 := hdn
    have hl := ok.1.1
    by_cases he : en = 0
    · subst he
      obtain ⟨σ, hrl, hi⟩ := hσ rfl
      have hi : i + σ ≤ 4 * dn + 3 := hi
      refine pk_le 1000 i (fun z => absurd z (by omega)) (fun _ => br_t rfl (pk_eq dn 200 (fun e => ?_) (fun e => ?_)))
      · subst e
        refine nm_r (nI_1 i) (ih (i + 1) (t + 1) T (pm, k, K, 200, 4, R) (pn, k, sk, 200, 4, R) (by omega) (by omega) ?_ ⟨rfl, hk, hst, rfl, rfl, rfl⟩ (Nat.le_refl 200) (fun z => absurd (show (4 : Int32) = 0 from z) (by decide)))
        show _ = dh_ps l P S (dh_it l P S t s0)
        rw [← hs]
        exact dh_ps_tired.symm
      · have real : ∀ (x : Nat) (nxm : Int32) (T' : Nat → Int32), pn = nI x → x < l → S x ≠ 0 → dh_rs l P S M A H G nxm (nI (x + dh_ln (dh_k P x))) →
            ∀ s : dh_PS, s = dh_ex (P (x + 1)) (dh_tg P x) nxm (nI (x + 2)) pm k K (dn + 1) R (dh_k P x) →
            wX_run_38 post f (nI (i + 1)) (nI l) wA (nI s.2.1) s.1 (nI s.2.2.2.1) s.2.2.2.2.1 P C S M A H G T' s.2.2.2.2.2 s.2.2.1 := by
          intro x nxm T' ex hx hxs hnx s es
          subst ex
          have sim := dh_sim (Rs := dh_rs l P S M A H G) (sec := P (x + 1)) (tg := dh_tg P x) (nxm := nxm) (nxn := nI (x + dh_ln (dh_k P x))) (nw := nI (x + 2)) (pcm := pm) (pcn := nI x) (k := k) (K := K) (sk := sk) (dn := dn + 1) (R := R) hk hst hnx (dh_k P x) (ok.1.2 x hx hxs).2.1
            (fun h4 h6 => ⟨2, by omega, Or.inl ⟨rfl, rfl, dh_gd_tg ok hx hxs h4 h6⟩⟩)
          rw [← es] at sim
          refine ih (i + 1) (t + 1) T' s (dh_ex (P (x + 1)) (dh_tg P x) (nI (x + dh_ln (dh_k P x))) (nI (x + 2)) (nI x) k sk (dn + 1) R (dh_k P x)) (by omega) (by omega) ?_ sim.1 (by rw [sim.2.2]; omega) (fun z => ?_)
          · show _ = dh_ps l P S (dh_it l P S t s0)
            rw [← hs]
            exact (dh_ps_ex hl e hx hxs).symm
          · obtain ⟨σ', h3, hr⟩ := sim.2.1 z
            exact ⟨σ', hr, by rw [sim.2.2]; omega⟩
        rcases hrl with ⟨rfl, rfl, hg⟩ | ⟨rfl, h, a, n, hh, rfl, rfl⟩ | ⟨rfl, h, a, n, q, x, hh, hc, rfl, rfl⟩ | ⟨rfl, h, a, n, i', q, x, hh, hc, rfl, rfl⟩
        · refine br_f (dh_nle hg.1) (dh_isStart hl (fun j hj ej hsj => br_f (by decide) ?_) (fun hn => br_t rfl (nm_r (nI_1 i) ?_)))
          · subst ej
            unfold wX_run_99
            by_cases hhd : ∃ h n, dh_hd H G h j n
            · obtain ⟨h, n, hh⟩ := hhd
              have hK := dh_ok_hk ok hh
              have h64 := hh.2.2.2
              exact dh_exFarC (by omega) hK.2.2.1 hK.2.2.2.1 (nm_r (nI_1 i) (ih (i + 1) t T (nI (512 + 16 * h), k, K, dn, 0, R) (nI j, k, sk, dn, 0, R) (by omega) (by omega) hs ⟨rfl, hk, hst, rfl, rfl, rfl⟩ hdn (fun _ => ⟨1, Or.inr (Or.inl ⟨rfl, h, j, n, hh, rfl, rfl⟩), (by omega : i + 1 + 1 ≤ 4 * dn + 3)⟩)))
            · have ho : ∀ h a n, dh_hd H G h a n → j < a ∨ a + n ≤ j := by
                intro h a n hh
                rcases hg.2 j hj rfl hsj h a n hh with z | z
                · by_cases y : j = a
                  · subst y
                    exact absurd ⟨h, n, hh⟩ hhd
                  · exact Or.inl (by omega)
                · exact Or.inr z
              have hC := dh_code ok hj hsj ho
              have hw := ok.1.2 j hj hsj
              have hp1 := dh_ln_pos (dh_k P j)
              refine dh_exP (kd := dh_k P j) (sec := P (j + 1)) (tg := dh_tg P j) hw.2.1 hk (by omega) ((hC 0 (by omega)).trans hw.1) (fun z => hC 1 z) (fun _ _ => ?_)
                (nm_r (nI_1 i) (real j (nI (j + dh_ln (dh_k P j))) T rfl hj hsj ⟨2, by omega, Or.inl ⟨rfl, rfl, dh_gd_nx ok hj hsj ho⟩⟩ _ rfl))
              have e2 := hC (dh_ln (dh_k P j) - 1) (by omega)
              rw [show j + (dh_ln (dh_k P j) - 1) = j + dh_ln (dh_k P j) - 1 by omega] at e2
              rw [e2]
              rfl
          · refine ih (i + 1) (t + 1) T (pm, k, K, dn, 2, R) (pm, k, sk, dn, 2, R) (by omega) (by omega) ?_ ⟨rfl, hk, hst, rfl, rfl, rfl⟩ hdn (fun z => absurd (show (2 : Int32) = 0 from z) (by decide))
            show _ = dh_ps l P S (dh_it l P S t s0)
            rw [← hs]
            exact (dh_ps_bad e (dh_st_n hl hn)).symm
        · have hK := dh_ok_hk ok hh
          have h4 := hh.1
          have h64 := hh.2.2.2
          obtain ⟨ci, hc⟩ := hK.2.2.2.2.2.1
          refine br_t (nI_le (a := 512) (by omega) (by omega)) ?_
          unfold wX_run_99
          refine dh_exCount (q := 16 * h) (by omega) hK.2.2.2.2.1 (fun T' => nm_r (nI_1 i) (ih (i + 1) t T' (nI (512 + (16 * h + 2)), k, K, dn, 0, R) (nI a, k, sk, dn, 0, R) (by omega) (by omega) hs ⟨rfl, hk, hst, rfl, rfl, rfl⟩ hdn (fun _ => ?_)))
          cases ci with
          | zero => exact absurd hc.1 (by omega)
          | succ ci => exact ⟨0, Or.inr (Or.inr (Or.inr ⟨rfl, h, a, n, ci, 16 * h + 2, a, hh, hc, rfl, rfl⟩)), (by omega : i + 1 + 0 ≤ 4 * dn + 3)⟩
        · obtain ⟨hx, hq, h9, had⟩ := hc
          have h4 := hh.1
          subst hx
          refine br_t (nI_le (a := 512) (by omega) (by omega)) ?_
          unfold wX_run_99
          exact dh_exFarA (q := q) (by omega) h9 had (nm_r (nI_1 i) (ih (i + 1) t T (nI (a + n), k, K, dn, 0, R) (nI (a + n), k, sk, dn, 0, R) (by omega) (by omega) hs ⟨rfl, hk, hst, rfl, rfl, rfl⟩ hdn (fun _ => ⟨2, Or.inl ⟨rfl, rfl, dh_gd_e ok hh⟩, (by omega : i + 1 + 2 ≤ 4 * dn + 3)⟩)))
        · obtain ⟨hx, hxs, hM, henc, hnext⟩ := hc
          have hK := dh_ok_hk ok hh
          have h4 := hh.1
          have hxl : x < l := by have := hK.1; omega
          have hhi := dh_ch_hi _ _ _ hnext
          refine br_t (nI_le (a := 512) (by omega) (by omega)) ?_
          unfold wX_run_99
          refine dh_exA hk (dh_k P x) (ok.1.2 x hxl hxs).2.1 (by omega) henc (nm_r (nI_1 i) (real x (nI (512 + q + dh_al (dh_k P x))) T rfl hxl hxs ?_ _ rfl))
          rw [Nat.add_assoc]
          exact dh_rs_ch hh hnext
    · exact pk_le 1000 i (fun _ => hp t T _ _ _ (pn, k, sk, dn, en, R) hs he) (fun _ => br_f he (hp t T _ _ _ (pn, k, sk, dn, en, R) hs he))
/-- entry -/
theorem dh_entry {post : Int32 → Prop} {st pc dn en : Int32} {T R K : Nat → Int32} (ok : dh_ok l P C S M A H G) {a : Nat} (ha : a < 64)
    (hp : ∀ r s, s ≤ 3 → dh_rl l P S M A H G s r (nI a) → post r) : wpX_entry post (nI l, wA, st, pc, dn, en, P, C, S, M, A, H, G, T, R, K) (nI a) := by
  have hl := ok.1.1
  have key : ∃ n, wX_entry_4 post (nI a) (nI l) wA st pc dn en P C S M A H G T R K n (nI a) (nI 0) := by
    refine pk_loop (fun n i (c : Int32) => wX_entry_4 post (nI a) (nI l) wA st pc dn en P C S M A H G T R K n c (nI i)) (fun i c => (c = nI a ∧ (a < l → S a ≠ 0 → ∀ h a' n', h < i → dh_hd H G h a' n' → a ≤ a' ∨ a' + n' ≤ a)) ∨ dh_rl l P S M A H G 0 c (nI a)) 4 0 (nI a) (by omega) (Or.inl ⟨rfl, fun _ _ h a' n' z => absurd z (by omega)⟩) ?_ ?_
    · intro n c hc
      refine pk_le 4 4 (fun _ => ?_) (fun z => absurd z (by omega))
      rcases hc with ⟨rfl, hc⟩ | hc
      · refine hp _ 2 (by omega) (Or.inl ⟨rfl, rfl, dh_512lt (by omega), fun j hj e hs h a' n' hh => ?_⟩)
        have e : a = j := (nI_eq (by omega) (by omega)).mp e
        subst e
        exact hc hj hs h a' n' hh.1 hh
      · exact hp _ 0 (by omega) hc
    · intro n i c hi hc hw
      have next : (a < l → S a ≠ 0 → ∀ a' n', dh_hd H G i a' n' → a ≤ a' ∨ a' + n' ≤ a) → wX_entry_4 post (nI a) (nI l) wA st pc dn en P C S M A H G T R K n c (nI (i + 1)) := by
        intro hq
        refine hw c ?_
        rcases hc with ⟨rfl, hc⟩ | hc
        · refine Or.inl ⟨rfl, fun h1 h2 h a' n' hh hd => ?_⟩
          by_cases e : h = i
          · subst e
            exact hq h1 h2 a' n' hd
          · exact hc h1 h2 h a' n' (by omega) hd
        · exact Or.inr hc
      refine pk_le 4 i (fun z => absurd z (by omega)) (fun _ => ⟨pk_in i 4 hi, ?_⟩)
      rw [nI_clamp (show i < 2 ^ 31 by omega)]
      rcases ok.2.1 i hi with e | ⟨a', n', hh, hK⟩
      · refine br_t (by rw [e]; decide) ?_
        refine br_t rfl (nm_r (nI_1 i) (next fun _ _ a' n' hh => ?_))
        exact absurd (hh.2.1.symm.trans e) (dh_m1 (by have := hh.2.2.2.2; omega))
      · have h64 := hh.2.2.2
        have u : ∀ a'' n'', dh_hd H G i a'' n'' → a'' = a' ∧ n'' = n' := fun a'' n'' x => dh_hd_u x hh
        rw [hh.2.1, hh.2.2.1]
        refine br_f (nI_pos (by omega)) ⟨pk_in i 4 hi, pk_le a a' (fun z => ?_) (fun z => ⟨pk_in i 4 hi, pk_in i 4 hi, pk_le (a' + n') a (fun y => ?_) (fun y => ?_) (nI_add a' n')⟩)⟩
        · refine br_t rfl (nm_r (nI_1 i) (next fun _ _ a'' n'' hh' => ?_))
          obtain ⟨rfl, rfl⟩ := u a'' n'' hh'
          exact Or.inl z
        · refine br_t rfl (nm_r (nI_1 i) (next fun _ _ a'' n'' hh' => ?_))
          obtain ⟨rfl, rfl⟩ := u a'' n'' hh'
          exact Or.inr y
        · refine br_f (by decide) (dh_isStart hl (fun j hj ej hs => br_f (by decide) ⟨pk_in a 64 ha, nm_r (e' := M a) (by rw [nI_clamp (by omega)]) (nm_r (nI_1 i) (hw _ (Or.inr ?_)))⟩) (fun hn => br_t rfl (nm_r (nI_1 i) (next fun h1 h2 => absurd (hn a h1 rfl) h2))))
          have ej : a = j := (nI_eq (by omega) (by omega)).mp ej
          subst ej
          obtain ⟨ci, hc⟩ := hK.2.2.2.2.2.1
          obtain ⟨i', q', hq⟩ := dh_ch_at ok.1 hK.1 ci _ _ hc a (by omega) (by omega) hs
          have hM := hq.2.2.1
          exact Or.inr (Or.inr (Or.inr ⟨rfl, i, a', n', i', q', a, hh, hq, hM, rfl⟩))
  exact key
/-- run -/
theorem dh_run {post : Int32 → St1 → Prop} {st pc dn en : Int32} {T R K : Nat → Int32} (ok : dh_ok l P C S M A H G) {a : Nat} (ha : a < 64)
    (hp : ∀ (t : Nat) (T' : Nat → Int32) (st pcm : Int32) (K' : Nat → Int32) (s' : dh_PS), s' = dh_it l P S t (nI a, 0, (fun _ => 0), 0, 0, R) → s'.2.2.2.2.1 ≠ 0 → post s'.2.2.2.2.1 (nI l, wA, st, pcm, nI s'.2.2.2.1, s'.2.2.2.2.1, P, C, S, M, A, H, G, T', s'.2.2.2.2.2, K')) :
    wpX_run post (nI l, wA, st, pc, dn, en, P, C, S, M, A, H, G, T, R, K) (nI a) := by
  refine pk_lt a 0 (fun z => absurd z (by omega)) (fun _ => pk_lt a 64 (fun _ => dh_entry ok ha (fun r s hs hr => ⟨1001, ?_⟩)) (fun z => absurd z (by omega)))
  refine dh_run38 ok (nI a, 0, (fun _ => 0), 0, 0, R) hp 1001 0 0 T (r, 0, K, 0, 0, R) (nI a, 0, (fun _ => 0), 0, 0, R) (by omega) (by omega) rfl ⟨rfl, (by omega : 0 ≤ 8), fun j hj => absurd hj (by show ¬ j < 0; omega), rfl, rfl, rfl⟩ (by show 0 ≤ 200; omega) (fun _ => ⟨s, hr, (by omega : 0 + s ≤ 4 * 0 + 3)⟩)
end
end
section
/-! hook(): the walks -/
/-- j instructions from x on end at e -/
def dh_hc (P : Nat → Int32) (e : Nat) : Nat → Nat → Prop
  | 0, x => x = e
  | j + 1, x => dh_hc P e j (x + dh_ln (dh_k P x))
theorem dh_hc_le {P : Nat → Int32} {e : Nat} : ∀ j x, dh_hc P e j x → x ≤ e ∧ (0 < j → x < e) := by
  intro j
  induction j with
  | zero => intro x h; exact ⟨Nat.le_of_eq h, fun z => absurd z (by omega)⟩
  | succ j ih =>
    intro x h
    have h1 := (ih _ h).1
    have h2 := dh_ln_pos (dh_k P x)
    exact ⟨by omega, fun _ => by omega⟩
theorem dh_hc_snoc {P : Nat → Int32} {y : Nat} : ∀ j x, dh_hc P y j x → dh_hc P (y + dh_ln (dh_k P y)) (j + 1) x := by
  intro j
  induction j with
  | zero =>
    intro x h
    have h : x = y := h
    subst h
    rfl
  | succ j ih => intro x h; exact ih _ h
section
variable {ln wA st pc dn en : Int32} {P C S M A H G T R K : Nat → Int32}
/-- headOf -/
theorem dh_headOf {post : Int32 → Prop} {l a : Nat} (hw : dh_wf l P S) (hs : S a ≠ 0) (ha : a + 3 ≤ l)
    (h : ∀ n j, 3 ≤ n → n ≤ 5 → a + n ≤ l → j ≤ 3 → dh_hc P (a + n) j a → post (nI n)) :
    wpX_headOf post (ln, wA, st, pc, dn, en, P, C, S, M, A, H, G, T, R, K) (nI a) := by
  have hl := hw.1
  have key : ∀ f n c, 3 < f + c → c ≤ 3 → c ≤ n → n ≤ 5 → a + n ≤ l → (a + n < l → S (a + n) ≠ 0) → dh_hc P (a + n) c a → wX_headOf_4 post (nI a) ln wA st pc dn en P C S M A H G T R K f (nI n) (nI c) := by
    intro f
    induction f with
    | zero => intro n c h1 h2; omega
    | succ f ih =>
      intro n c h1 h2 h3 h4 h5 h6 h7
      refine pk_le 3 c (fun z => h n c (by omega) h4 h5 h2 h7) (fun z => pk_le 3 n (fun y => h n c y h4 h5 h2 h7) (fun y => ⟨pk_in (a + n) 64 (by omega) (nI_add a n), ?_⟩))
      obtain ⟨w1, w2, w3, w4, w5, w6⟩ := hw.2 (a + n) (by omega) (h6 (by omega))
      have hp := dh_ln_pos (dh_k P (a + n))
      have hq := dh_ln_le (dh_k P (a + n))
      rw [nI_add, nI_clamp (by omega), w1]
      refine dh_lengthOf w2 (nm_r (nI_add n _) (nm_r (nI_1 c) (ih (n + dh_ln (dh_k P (a + n))) (c + 1) (by omega) (by omega) (by omega) (by omega) (by omega) ?_ ?_)))
      · rw [← Nat.add_assoc]
        exact w4
      · rw [← Nat.add_assoc]
        exact dh_hc_snoc c a h7
  exact ⟨4, key 4 0 0 (by omega) (by omega) (by omega) (by omega) (by omega) (fun _ => hs) rfl⟩
/-- meetsHead -/
theorem dh_meets {post : Int32 → Prop} {l a n : Nat} (ok : dh_ok l P C S M A H G) (ha : a + n ≤ 64)
    (h0 : (∀ h a' n', dh_hd H G h a' n' → a' + n' ≤ a ∨ a + n ≤ a') → post 0) (h1 : post 1) :
    wpX_meetsHead post (ln, wA, st, pc, dn, en, P, C, S, M, A, H, G, T, R, K) (nI a) (nI n) := by
  have key : ∃ f, wX_meetsHead_5 post (nI a) (nI n) ln wA st pc dn en P C S M A H G T R K f 0 (nI 0) := by
    refine pk_loop (fun f i (c : Int32) => wX_meetsHead_5 post (nI a) (nI n) ln wA st pc dn en P C S M A H G T R K f c (nI i)) (fun i c => (c = 0 ∧ ∀ h a' n', h < i → dh_hd H G h a' n' → a' + n' ≤ a ∨ a + n ≤ a') ∨ c = 1) 4 0 0 (by omega) (Or.inl ⟨rfl, fun h a' n' z => absurd z (by omega)⟩) ?_ ?_
    · intro f c hc
      refine pk_le 4 4 (fun _ => ?_) (fun z => absurd z (by omega))
      rcases hc with ⟨rfl, hc⟩ | rfl
      · exact ⟨by rfl, h0 fun h a' n' hh => hc h a' n' hh.1 hh⟩
      · exact ⟨by rfl, h1⟩
    · intro f i c hi hc hw
      have next : (∀ a' n', dh_hd H G i a' n' → a' + n' ≤ a ∨ a + n ≤ a') → wX_meetsHead_5 post (nI a) (nI n) ln wA st pc dn en P C S M A H G T R K f c (nI (i + 1)) := by
        intro hq
        refine hw c ?_
        rcases hc with ⟨rfl, hc⟩ | hc
        · refine Or.inl ⟨rfl, fun h a' n' hh hd => ?_⟩
          by_cases e : h = i
          · subst e
            exact hq a' n' hd
          · exact hc h a' n' (by omega) hd
        · exact Or.inr hc
      refine pk_le 4 i (fun z => absurd z (by omega)) (fun _ => ⟨pk_in i 4 hi, ?_⟩)
      rw [nI_clamp (show i < 2 ^ 31 by omega)]
      rcases ok.2.1 i hi with e | ⟨a', n', hh, hK⟩
      · refine br_t (by rw [e]; decide) (nm_r (nI_1 i) (next fun a' n' hh => ?_))
        exact absurd (hh.2.1.symm.trans e) (dh_m1 (by have := hh.2.2.2.2; omega))
      · have h64 := hh.2.2.2
        rw [hh.2.1, hh.2.2.1]
        refine br_f (nI_pos (by omega)) ⟨pk_in i 4 hi, pk_in i 4 hi, pk_le (a' + n') a (fun y => nm_r (nI_1 i) (next fun a'' n'' hh' => ?_)) (fun y => ⟨pk_in i 4 hi, pk_le (a + n) a' (fun z => nm_r (nI_1 i) (next fun a'' n'' hh' => ?_)) (fun z => nm_r (nI_1 i) (hw 1 (Or.inr rfl))) (nI_add a n)⟩) (nI_add a' n')⟩
        · obtain ⟨rfl, rfl⟩ := dh_hd_u hh hh'
          exact Or.inl y
        · obtain ⟨rfl, rfl⟩ := dh_hd_u hh hh'
          exact Or.inr z
  exact key
/-- aimedInside -/
theorem dh_aimed {post : Int32 → Prop} {l a n : Nat} (hw : dh_wf l P S)
    (h0 : (∀ x, x < l → S x ≠ 0 → 4 ≤ dh_k P x → dh_k P x ≤ 6 → dh_tg P x ≤ nI a ∨ nI (a + n) ≤ dh_tg P x) → post 0) (h1 : post 1) :
    wpX_aimedInside post (nI l, wA, st, pc, dn, en, P, C, S, M, A, H, G, T, R, K) (nI a) (nI n) := by
  have hl := hw.1
  have key : ∃ f, wX_aimedInside_5 post (nI a) (nI n) (nI l) wA st pc dn en P C S M A H G T R K f 0 (nI 0) := by
    refine pk_loop (fun f i (c : Int32) => wX_aimedInside_5 post (nI a) (nI n) (nI l) wA st pc dn en P C S M A H G T R K f c (nI i)) (fun i c => (c = 0 ∧ ∀ x, x < i → S x ≠ 0 → 4 ≤ dh_k P x → dh_k P x ≤ 6 → dh_tg P x ≤ nI a ∨ nI (a + n) ≤ dh_tg P x) ∨ c = 1) l 0 0 (by omega) (Or.inl ⟨rfl, fun x z => absurd z (by omega)⟩) ?_ ?_
    · intro f c hc
      refine pk_le l l (fun _ => ?_) (fun z => absurd z (by omega))
      rcases hc with ⟨rfl, hc⟩ | rfl
      · exact ⟨by rfl, h0 hc⟩
      · exact ⟨by rfl, h1⟩
    · intro f i c hi hc hW
      have next : (S i ≠ 0 → 4 ≤ dh_k P i → dh_k P i ≤ 6 → dh_tg P i ≤ nI a ∨ nI (a + n) ≤ dh_tg P i) → (c = 0 → wX_aimedInside_5 post (nI a) (nI n) (nI l) wA st pc dn en P C S M A H G T R K f 0 (nI (i + 1))) := by
        intro hq e
        subst e
        refine hW 0 ?_
        rcases hc with ⟨_, hc⟩ | hc
        · refine Or.inl ⟨rfl, fun x hx => ?_⟩
          by_cases e : x = i
          · subst e
            exact hq
          · exact hc x (by omega)
        · exact absurd hc (by decide)
      refine pk_le l i (fun z => absurd z (by omega)) (fun _ => ⟨pk_in i 64 (by omega), ?_⟩)
      rw [nI_clamp (show i < 2 ^ 31 by omega)]
      refine ⟨fun z => nm_r (nI_1 i) ?_, fun z => ?_⟩
      · rcases hc with ⟨rfl, hc⟩ | rfl
        · exact next (fun y => absurd z y) rfl
        · exact hW 1 (Or.inr rfl)
      · obtain ⟨w1, w2, w3, w4, w5, w6⟩ := hw.2 i hi z
        refine dh_targetOf (by omega) w1 w2 (fun h4 h6 => ⟨fun e => ⟨fun g => nm_r (nI_1 i) (next (fun _ _ _ => Or.inl g) e), fun g => ⟨fun g2 => nm_r (nI_1 i) (next (fun _ _ _ => Or.inr (by rw [← nI_add]; exact g2)) e), fun g2 => nm_r (nI_1 i) (hW 1 (Or.inr rfl))⟩⟩, fun e => nm_r (nI_1 i) (hW 1 (Or.inr rfl))⟩) (fun hn => ?_)
        refine ⟨fun e => ⟨fun g => nm_r (nI_1 i) (next (fun _ h4 h6 => absurd ⟨h4, h6⟩ hn) e), fun g => ⟨fun g2 => nm_r (nI_1 i) (next (fun _ h4 h6 => absurd ⟨h4, h6⟩ hn) e), fun g2 => nm_r (nI_1 i) (hW 1 (Or.inr rfl))⟩⟩, fun e => nm_r (nI_1 i) (hW 1 (Or.inr rfl))⟩
  exact key
end
section
variable {ln st pc dn en : Int32} {P C S M A H G T R K : Nat → Int32} {post : St1 → Prop} {w : Nat}
theorem dh_put {b : Int32} (hw : w < 64) (h : post (ln, nI (w + 1), st, pc, dn, en, P, C, S, M, upd A w b, H, G, T, R, K)) : wpX_put post (ln, nI w, st, pc, dn, en, P, C, S, M, A, H, G, T, R, K) b :=
  ⟨pk_in w 64 hw, nm_r (by rw [nI_clamp (by omega)]) (nm_r (nI_1 w) h)⟩
theorem dh_putAdr {x : Int32} {v : Nat} (hw : w + 1 < 64) (hv : v < 2 ^ 31) (e : x + 256 = nI v)
    (h : ∀ A', dh_adr A' w = x → (∀ j, j < w ∨ w + 2 ≤ j → A' j = A j) → post (ln, nI (w + 2), st, pc, dn, en, P, C, S, M, A', H, G, T, R, K)) : wpX_putAddress post (ln, nI w, st, pc, dn, en, P, C, S, M, A, H, G, T, R, K) x := by
  unfold wpX_putAddress
  refine dh_put (by omega) (dh_put hw (h _ ?_ ?_))
  · unfold dh_adr
    rw [pk_us, pk_un (by omega), pk_us]
    exact dh_adr_x hv e
  · intro j hj
    rw [pk_un (by omega), pk_un (by omega)]
/-- relocate -/
theorem dh_relocate {l x : Nat} (hwf : dh_wf l P S) (hx : x < l) (hs : S x ≠ 0) (hw : w + dh_al (dh_k P x) ≤ 64)
    (h : ∀ A', dh_enc A' w (P (x + 1)) (dh_tg P x) (nI (x + 2)) (dh_k P x) → (∀ j, j < w ∨ w + dh_al (dh_k P x) ≤ j → A' j = A j) → post (ln, nI (w + dh_al (dh_k P x)), st, pc, dn, en, P, C, S, M, A', H, G, T, R, K)) :
    wpX_relocate post (ln, nI w, st, pc, dn, en, P, C, S, M, A, H, G, T, R, K) (nI x) := by
  have hl := hwf.1
  obtain ⟨w1, w2, w3, w4, w5, w6⟩ := hwf.2 x hx hs
  have htg := dh_tg_b hwf hx hs
  have hpos := dh_ln_pos (dh_k P x)
  have hcx : P (nI x).toNatClampNeg = nI (dh_k P x) := by rw [nI_clamp (by omega)]; exact w1
  have hcx1 : P (nI x + 1).toNatClampNeg = P (x + 1) := by rw [nI_1, nI_clamp (by omega)]
  unfold wpX_relocate
  refine ⟨pk_in x 64 (by omega), nm_r hcx (dh_targetOf (by omega) w1 w2 ?_ ?_)⟩
  · intro h4 h6
    obtain ⟨v, hv, ev⟩ := (htg h4 h6).2
    generalize dh_tg P x = tg at *
    generalize dh_k P x = kd at *
    have c : kd = 4 ∨ kd = 5 ∨ kd = 6 := by omega
    rcases c with rfl | rfl | rfl
    · have hw : w + 3 ≤ 64 := hw
      refine br_t rfl (dh_put (by omega) (dh_putAdr (by omega) hv ev (fun A' e1 e2 => h A' ⟨?_, e1⟩ ?_)))
      · rw [e2 w (by omega), pk_us]
      · intro j hj
        have hj : j < w ∨ w + 3 ≤ j := hj
        rw [e2 j (by omega), pk_un (by omega)]
    · have hw : w + 4 ≤ 64 := hw
      have w3 : x + 3 ≤ l := w3
      refine br_f (by decide) (br_t rfl (dh_put (by omega) ⟨pk_in (x + 1) 64 (by omega) (nI_1 x), ?_⟩))
      rw [hcx1]
      refine dh_put (by omega) (dh_putAdr (by omega) hv ev (fun A' e1 e2 => h A' ⟨?_, ?_, e1⟩ ?_))
      · rw [e2 w (by omega), pk_un (by omega), pk_us]
      · rw [e2 (w + 1) (by omega), pk_us]
      · intro j hj
        have hj : j < w ∨ w + 4 ≤ j := hj
        rw [e2 j (by omega), pk_un (by omega), pk_un (by omega)]
    · have hw : w + 3 ≤ 64 := hw
      refine br_f (by decide) (br_f (by decide) (br_t rfl (dh_put (by omega) (dh_putAdr (by omega) hv ev (fun A' e1 e2 => h A' ⟨?_, e1⟩ ?_)))))
      · rw [e2 w (by omega), pk_us]
      · intro j hj
        have hj : j < w ∨ w + 3 ≤ j := hj
        rw [e2 j (by omega), pk_un (by omega)]
  · intro hn
    generalize dh_tg P x = tg at *
    generalize dh_k P x = kd at *
    have one : ∀ b : Int32, ∀ j, j < w ∨ w + 1 ≤ j → upd A w b j = A j := by
      intro b j hj
      rw [pk_un (by omega)]
    have two : ∀ b c : Int32, ∀ j, j < w ∨ w + 2 ≤ j → upd (upd A w b) (w + 1) c j = A j := by
      intro b c j hj
      rw [pk_un (by omega), pk_un (by omega)]
    have twoE : ∀ b c : Int32, upd (upd A w b) (w + 1) c w = b ∧ upd (upd A w b) (w + 1) c (w + 1) = c := by
      intro b c
      exact ⟨by rw [pk_un (by omega), pk_us], by rw [pk_us]⟩
    have c : kd = 0 ∨ kd = 1 ∨ kd = 2 ∨ kd = 3 ∨ kd = 7 ∨ kd = 8 := by omega
    rcases c with rfl | rfl | rfl | rfl | rfl | rfl
    · have hw : w + 1 ≤ 64 := hw
      exact br_f (by decide) (br_f (by decide) (br_f (by decide) (br_f (by decide) (dh_put (by omega) (br_t (by decide) (h _ pk_us (one _)))))))
    · have hw : w + 2 ≤ 64 := hw
      have w3 : x + 2 ≤ l := w3
      refine br_f (by decide) (br_f (by decide) (br_f (by decide) (br_f (by decide) (dh_put (by omega) (br_f (by decide) (br_f (by decide) ⟨pk_in (x + 1) 64 (by omega) (nI_1 x), ?_⟩))))))
      rw [hcx1]
      exact dh_put (by omega) (h _ (twoE _ _) (two _ _))
    · have hw : w + 2 ≤ 64 := hw
      have w3 : x + 2 ≤ l := w3
      refine br_f (by decide) (br_f (by decide) (br_f (by decide) (br_f (by decide) (dh_put (by omega) (br_f (by decide) (br_f (by decide) ⟨pk_in (x + 1) 64 (by omega) (nI_1 x), ?_⟩))))))
      rw [hcx1]
      exact dh_put (by omega) (h _ (twoE _ _) (two _ _))
    · have hw : w + 2 ≤ 64 := hw
      have w3 : x + 2 ≤ l := w3
      refine br_f (by decide) (br_f (by decide) (br_f (by decide) (br_f (by decide) (dh_put (by omega) (br_f (by decide) (br_f (by decide) ⟨pk_in (x + 1) 64 (by omega) (nI_1 x), ?_⟩))))))
      rw [hcx1]
      exact dh_put (by omega) (h _ (twoE _ _) (two _ _))
    · have hw : w + 1 ≤ 64 := hw
      exact br_f (by decide) (br_f (by decide) (br_f (by decide) (br_f (by decide) (dh_put (by omega) (br_f (by decide) (br_t (by decide) (h _ pk_us (one _))))))))
    · have hw : w + 4 ≤ 64 := hw
      have w3 : x + 2 ≤ l := w3
      refine br_f (by decide) (br_f (by decide) (br_f (by decide) (br_t rfl (dh_put (by omega) ⟨pk_in (x + 1) 64 (by omega) (nI_1 x), ?_⟩))))
      rw [hcx1]
      refine dh_put (by omega) (dh_putAdr (v := x + 2 + 256) (by omega) (by omega) ((congrArg (· + 256) (nI_add x 2)).trans (nI_add (x + 2) 256)) (fun A' e1 e2 => h A' ⟨?_, ?_, e1.trans (nI_add x 2)⟩ ?_))
      · rw [e2 w (by omega), pk_un (by omega), pk_us]
      · rw [e2 (w + 1) (by omega), pk_us]
      · intro j hj
        have hj : j < w ∨ w + 4 ≤ j := hj
        rw [e2 j (by omega), pk_un (by omega), pk_un (by omega)]
end
end
section
section
variable {ln st pc dn en : Int32} {P C S H G T R K : Nat → Int32} {post : St1 → Prop}
theorem dh_a256 (a n : Nat) : nI a + nI n + 256 = nI (a + n + 256) := by
  rw [nI_add]
  exact nI_add (a + n) 256
/-- displace's loop -/
theorem dh_disp25 {a n l hi : Nat} (hwf : dh_wf l P S) (he : a + n ≤ l) (hhi : hi ≤ 64) :
    ∀ (j f c x w : Nat) (M A : Nat → Int32), j < f → c + j ≤ 3 → dh_hc P (a + n) j x → (x < a + n → S x ≠ 0) → w + 2 * (a + n - x) + 3 ≤ hi →
      (∀ (w' : Int32) (M' A' : Nat → Int32), dh_ch P S M' A' hi (a + n) j w x → (∀ q, q < w ∨ hi ≤ q → A' q = A q) → (∀ y, y < x ∨ a + n ≤ y → M' y = M y) → post (ln, w', st, pc, dn, en, P, C, S, M', A', H, G, T, R, K)) →
      wX_displace_25 post (nI a) (nI n) f (nI x) (nI c) ln (nI w) st pc dn en P C S M A H G T R K := by
  have hl := hwf.1
  intro j
  induction j with
  | zero =>
    intro f c x w M A hf hc hx hs hw h
    have hx : x = a + n := hx
    obtain ⟨f, rfl⟩ : ∃ f', f = f' + 1 := ⟨f - 1, by omega⟩
    have fin : wX_displace_82 post (nI a) (nI n) ln (nI w) st pc dn en P C S M A H G T R K := by
      unfold wX_displace_82
      refine dh_put (by omega) (dh_putAdr (v := a + n + 256) (by omega) (by omega) (dh_a256 a n) (fun A' e1 e2 => h _ M A' ⟨hx, by omega, ?_, e1.trans (nI_add a n)⟩ ?_ (fun _ _ => rfl)))
      · rw [e2 w (by omega), pk_us]
      · intro q hq
        rw [e2 q (by omega), pk_un (by omega)]
    exact pk_le 3 c (fun _ => fin) (fun _ => pk_le (a + n) x (fun _ => fin) (fun z => absurd z (by omega)) (nI_add a n))
  | succ j ih =>
    intro f c x w M A hf hc hx hs hw h
    obtain ⟨f, rfl⟩ : ∃ f', f = f' + 1 := ⟨f - 1, by omega⟩
    have hlt := (dh_hc_le _ _ hx).2 (by omega)
    have hx : dh_hc P (a + n) j (x + dh_ln (dh_k P x)) := hx
    have hle := (dh_hc_le _ _ hx).1
    have hs := hs hlt
    obtain ⟨w1, w2, w3, w4, w5, w6⟩ := hwf.2 x (by omega) hs
    have hpos := dh_ln_pos (dh_k P x)
    have hal := dh_al_le _ w2
    refine pk_le 3 c (fun z => absurd z (by omega)) (fun _ => pk_le (a + n) x (fun z => absurd z (by omega)) (fun _ => ⟨pk_in x 64 (by omega), nm_r (e' := upd M x (nI (512 + w))) ?_ (dh_relocate hwf (by omega) hs (by omega) (fun A1 enc fr => ⟨pk_in x 64 (by omega), ?_⟩))⟩) (nI_add a n))
    · rw [nI_clamp (by omega)]
      exact congrArg (upd M x) (nI_add 512 w)
    · rw [nI_clamp (by omega), w1]
      refine dh_lengthOf w2 (nm_r (nI_add x _) (nm_r (nI_1 c) (ih f (c + 1) (x + dh_ln (dh_k P x)) (w + dh_al (dh_k P x)) (upd M x (nI (512 + w))) A1 (by omega) (by omega) hx (fun z => w4 (by omega)) (by omega) (fun w' M' A' hch hA hM => h w' M' A' ⟨hlt, hs, ?_, dh_enc_fr _ w2 (fun p _ hp => hA p (Or.inl hp)) enc, hch⟩ ?_ ?_))))
      · rw [hM x (Or.inl (by omega)), pk_us]
      · intro q hq
        rw [hA q (by omega), fr q (by omega)]
      · intro y hy
        rw [hM y (by omega), pk_un (by omega)]
theorem dh_displace {wA : Int32} {M A : Nat → Int32} {a n l h j : Nat} (hwf : dh_wf l P S) (he : a + n ≤ l) (h4 : h < 4) (hn3 : 3 ≤ n) (hn : n ≤ 5) (hj : j ≤ 3) (hc : dh_hc P (a + n) j a) (hs : S a ≠ 0)
    (hp : ∀ (w' : Int32) (M' A' : Nat → Int32), A' (16 * h) = 10 → dh_ch P S M' A' (16 * h + 16) (a + n) j (16 * h + 2) a → (∀ q, q < 16 * h ∨ 16 * h + 16 ≤ q → A' q = A q) → (∀ y, y < a ∨ a + n ≤ y → M' y = M y) → post (ln, w', st, pc, dn, en, P, C, S, M', A', H, G, T, R, K)) :
    wpX_displace post (ln, wA, st, pc, dn, en, P, C, S, M, A, H, G, T, R, K) (nI h) (nI a) (nI n) := by
  unfold wpX_displace
  refine nm_r (e' := nI (16 * h)) ?_ (dh_put (by omega) (dh_put (by omega) ⟨4, ?_⟩))
  · rw [Nat.mul_comm]
    exact pk_mul h 16
  · refine dh_disp25 hwf he (hi := 16 * h + 16) (by omega) j 4 0 a (16 * h + 2) M _ (by omega) (by omega) hc (fun _ => hs) (by omega) (fun w' M' A' hch hA hM => hp w' M' A' ?_ hch ?_ hM)
    · rw [hA (16 * h) (by omega), pk_un (by omega), pk_us]
    · intro q hq
      rw [hA q (by omega), pk_un (by omega), pk_un (by omega)]
/-- overwrite -/
theorem dh_over {wA : Int32} {M A : Nat → Int32} {a n h : Nat} (h4 : h < 4) (hn3 : 3 ≤ n) (ha : a + n ≤ 64)
    (hp : ∀ C' : Nat → Int32, C' a = 9 → dh_adr C' (a + 1) = nI (512 + 16 * h) → (∀ j, j < a ∨ a + n ≤ j → C' j = C j) → post (ln, wA, st, pc, dn, en, P, C', S, M, A, H, G, T, R, K)) :
    wpX_overwrite post (ln, wA, st, pc, dn, en, P, C, S, M, A, H, G, T, R, K) (nI h) (nI a) (nI n) := by
  unfold wpX_overwrite
  refine nm_r (e' := nI (768 + 16 * h)) ?_ ⟨pk_in a 64 (by omega), nm_r (e' := upd C a 9) (by rw [nI_clamp (by omega)]) ⟨pk_in (a + 1) 64 (by omega) (nI_1 a), nm_r (e' := upd (upd C a 9) (a + 1) (nI (768 + 16 * h) >>> ((8 : Int32) &&& 31))) (by rw [nI_1, nI_clamp (by omega)]) ⟨pk_in (a + 2) 64 (by omega) (nI_add a 2), nm_r (e' := upd (upd (upd C a 9) (a + 1) (nI (768 + 16 * h) >>> ((8 : Int32) &&& 31))) (a + 2) (nI (768 + 16 * h) &&& 255)) ?_ ?_⟩⟩⟩
  · have e : nI h * 16 = nI (h * 16) := pk_mul h 16
    rw [e]
    have e2 : (512 : Int32) + nI (h * 16) = nI (512 + h * 16) := nI_add 512 (h * 16)
    rw [e2]
    have e3 : nI (512 + h * 16) + 256 = nI (512 + h * 16 + 256) := nI_add (512 + h * 16) 256
    rw [e3]
    congr 1
    omega
  · have e : nI a + 2 = nI (a + 2) := nI_add a 2
    rw [e, nI_clamp (by omega)]
  · refine pk_loop (fun f i (c : Nat → Int32) => wX_overwrite_52 post (nI a) (nI n) ln wA st pc dn en f (nI i) P c S M A H G T R K) (fun i c => 3 ≤ i ∧ ∀ j, j < a + 3 ∨ a + n ≤ j → c j = upd (upd (upd C a 9) (a + 1) (nI (768 + 16 * h) >>> ((8 : Int32) &&& 31))) (a + 2) (nI (768 + 16 * h) &&& 255) j) n 3 _ hn3 ⟨by omega, fun _ _ => rfl⟩ ?_ ?_
    · intro f c ⟨_, hc⟩
      refine pk_le n n (fun _ => hp c ?_ ?_ ?_) (fun z => absurd z (by omega))
      · rw [hc a (by omega), pk_un (by omega), pk_un (by omega), pk_us]
      · unfold dh_adr
        rw [hc (a + 1) (by omega), pk_un (by omega), pk_us, hc (a + 1 + 1) (by omega), pk_us, dh_adr_ok (by omega)]
        have e := pk_sub (a := 768 + 16 * h) (b := 256) (by omega)
        rw [show 768 + 16 * h - 256 = 512 + 16 * h by omega] at e
        exact e
      · intro j hj
        rw [hc j (by omega), pk_un (by omega), pk_un (by omega), pk_un (by omega)]
    · intro f i c hi ⟨h3, hc⟩ hw
      refine pk_le n i (fun z => absurd z (by omega)) (fun _ => ⟨pk_in (a + i) 64 (by omega) (nI_add a i), nm_r (e' := upd c (a + i) 255) (by rw [nI_add, nI_clamp (by omega)]) (nm_r (nI_1 i) (hw _ ⟨by omega, fun j hj => ?_⟩))⟩)
      rw [pk_un (by omega)]
      exact hc j hj
end
section
variable {l : Nat} {P C S M A H G : Nat → Int32}
/-- the pure part of hook() -/
theorem dh_ok_hook {C' M' A' : Nat → Int32} (ok : dh_ok l P C S M A H G) {h a n i : Nat} (h4 : h < 4) (hH : H h = -1) (hs : S a ≠ 0) (hn3 : 3 ≤ n) (han : a + n ≤ l)
    (hmeet : ∀ h' a' n', dh_hd H G h' a' n' → a' + n' ≤ a ∨ a + n ≤ a')
    (haim : ∀ x, x < l → S x ≠ 0 → 4 ≤ dh_k P x → dh_k P x ≤ 6 → dh_tg P x ≤ nI a ∨ nI (a + n) ≤ dh_tg P x)
    (hC1 : C' a = 9) (hC2 : dh_adr C' (a + 1) = nI (512 + 16 * h)) (hC : ∀ j, j < a ∨ a + n ≤ j → C' j = C j)
    (hA1 : A' (16 * h) = 10) (hch : dh_ch P S M' A' (16 * h + 16) (a + n) i (16 * h + 2) a) (hA : ∀ q, q < 16 * h ∨ 16 * h + 16 ≤ q → A' q = A q) (hM : ∀ y, y < a ∨ a + n ≤ y → M' y = M y) :
    dh_ok l P C' S M' A' (upd H h (nI a)) (upd G h (nI n)) := by
  have hl := ok.1.1
  have me : dh_hd (upd H h (nI a)) (upd G h (nI n)) h a n := ⟨h4, pk_us, pk_us, hn3, by omega⟩
  have key1 : ∀ h' a' n', dh_hd (upd H h (nI a)) (upd G h (nI n)) h' a' n' → (h' = h ∧ a' = a ∧ n' = n) ∨ (h' ≠ h ∧ dh_hd H G h' a' n') := by
    intro h' a' n' hh
    by_cases e : h' = h
    · subst e
      obtain ⟨e1, e2⟩ := dh_hd_u hh me
      exact Or.inl ⟨rfl, e1, e2⟩
    · obtain ⟨x1, x2, x3, x4, x5⟩ := hh
      rw [pk_un e] at x2 x3
      exact Or.inr ⟨e, x1, x2, x3, x4, x5⟩
  have key2 : ∀ h' a' n', dh_hd H G h' a' n' → h' ≠ h ∧ dh_hd (upd H h (nI a)) (upd G h (nI n)) h' a' n' := by
    intro h' a' n' hh
    have e : h' ≠ h := by
      intro e
      subst e
      exact dh_m1 (by have := hh.2.2.2.2; omega) (hh.2.1.symm.trans hH)
    refine ⟨e, hh.1, ?_, ?_, hh.2.2.2⟩
    · rw [pk_un e]
      exact hh.2.1
    · rw [pk_un e]
      exact hh.2.2.1
  refine ⟨ok.1, fun h' hh' => ?_, fun h1 a1 n1 h2 a2 n2 x y ne => ?_, fun j hj => ?_⟩
  · by_cases e : h' = h
    · subst e
      exact Or.inr ⟨a, n, me, han, hs, hC1, hC2, hA1, ⟨i, hch⟩, haim⟩
    · rcases ok.2.1 h' hh' with z | ⟨a', n', hh, hK⟩
      · refine Or.inl ?_
        rw [pk_un e]
        exact z
      · obtain ⟨k1, k2, k3, k4, k5, ⟨ci, k6⟩, k7⟩ := hK
        have h64 := hh.2.2.2
        have hm := hmeet h' a' n' hh
        refine Or.inr ⟨a', n', (key2 h' a' n' hh).2, k1, k2, (hC a' (by omega)).trans k3, (dh_adr_fr (hC (a' + 1) (by omega)) (hC (a' + 1 + 1) (by omega))).trans k4, (hA (16 * h') (by omega)).trans k5, ⟨ci, ?_⟩, k7⟩
        exact dh_ch_fr ok.1 k1 ci _ _ (fun p hp hp' => hA p (by omega)) (fun y hy hy' => hM y (by omega)) k6
  · rcases key1 h1 a1 n1 x with ⟨e1, e2, e3⟩ | ⟨ne1, x'⟩
    · rcases key1 h2 a2 n2 y with ⟨g1, g2, g3⟩ | ⟨ne2, y'⟩
      · exact absurd (e1.trans g1.symm) ne
      · have := hmeet h2 a2 n2 y'
        omega
    · rcases key1 h2 a2 n2 y with ⟨g1, g2, g3⟩ | ⟨ne2, y'⟩
      · rw [g2, g3]
        exact hmeet h1 a1 n1 x'
      · exact ok.2.2.1 h1 a1 n1 h2 a2 n2 x' y' ne
  · rw [hC j (hj h a n me)]
    exact ok.2.2.2 j (fun h' a' n' hh => hj h' a' n' (key2 h' a' n' hh).2)
/-- the pure part of unhook() -/
theorem dh_ok_unhook {C' : Nat → Int32} (ok : dh_ok l P C S M A H G) {h a n : Nat} (hh : dh_hd H G h a n) (hC1 : ∀ j, a ≤ j → j < a + n → C' j = P j) (hC : ∀ j, j < a ∨ a + n ≤ j → C' j = C j) :
    dh_ok l P C' S M A (upd H h (-1)) G ∧ (∀ h', h' < 4 → upd H h (-1) h' = -1 ∨ (upd H h (-1) h' = H h' ∧ H h' ≠ nI a)) := by
  have hl := ok.1.1
  have h64 := hh.2.2.2
  have key1 : ∀ h' a' n', dh_hd (upd H h (-1)) G h' a' n' → h' ≠ h ∧ dh_hd H G h' a' n' := by
    intro h' a' n' x
    by_cases e : h' = h
    · subst e
      have x2 := x.2.1
      rw [pk_us] at x2
      exact absurd x2.symm (dh_m1 (by have := x.2.2.2.2; omega))
    · obtain ⟨x1, x2, x3⟩ := x
      rw [pk_un e] at x2
      exact ⟨e, x1, x2, x3⟩
  have key2 : ∀ h' a' n', h' ≠ h → dh_hd H G h' a' n' → dh_hd (upd H h (-1)) G h' a' n' := by
    intro h' a' n' e x
    refine ⟨x.1, ?_, x.2.2⟩
    rw [pk_un e]
    exact x.2.1
  refine ⟨⟨ok.1, fun h' hh' => ?_, fun h1 a1 n1 h2 a2 n2 x y ne => ok.2.2.1 h1 a1 n1 h2 a2 n2 (key1 _ _ _ x).2 (key1 _ _ _ y).2 ne, fun j hj => ?_⟩, fun h' hh' => ?_⟩
  · by_cases e : h' = h
    · subst e
      exact Or.inl pk_us
    · rcases ok.2.1 h' hh' with z | ⟨a', n', hx, hK⟩
      · refine Or.inl ?_
        rw [pk_un e]
        exact z
      · obtain ⟨k1, k2, k3, k4, k5, k6, k7⟩ := hK
        have h64' := hx.2.2.2
        have hm := ok.2.2.1 h' a' n' h a n hx hh e
        exact Or.inr ⟨a', n', key2 h' a' n' e hx, k1, k2, (hC a' (by omega)).trans k3, (dh_adr_fr (hC (a' + 1) (by omega)) (hC (a' + 1 + 1) (by omega))).trans k4, k5, k6, k7⟩
  · by_cases z : a ≤ j ∧ j < a + n
    · exact hC1 j z.1 z.2
    · rw [hC j (by omega)]
      refine ok.2.2.2 j (fun h' a' n' x => ?_)
      by_cases e : h' = h
      · subst e
        obtain ⟨rfl, rfl⟩ := dh_hd_u hh x
        omega
      · exact hj h' a' n' (key2 h' a' n' e x)
  · by_cases e : h' = h
    · subst e
      exact Or.inl pk_us
    · rcases ok.2.1 h' hh' with z | ⟨a', n', hx, hK⟩
      · refine Or.inl ?_
        rw [pk_un e]
        exact z
      · refine Or.inr ⟨pk_un e, fun z => ?_⟩
        have h64' := hx.2.2.2
        have e2 : a' = a := (nI_eq (by omega) (by omega)).mp (hx.2.1.symm.trans z)
        have hm := ok.2.2.1 h' a' n' h a n hx hh e
        omega
end
section
variable {l : Nat} {wA st pc dn en : Int32} {P C S M A H G T R K : Nat → Int32} {post : Int32 → St1 → Prop}
/-- hook -/
theorem dh_hook (ok : dh_ok l P C S M A H G) {a : Nat} (ha : a < 64)
    (hp : ∀ (r w' : Int32) (C' M' A' H' G' T' : Nat → Int32), dh_ok l P C' S M' A' H' G' → post r (nI l, w', st, pc, dn, en, P, C', S, M', A', H', G', T', R, K)) :
    wpX_hook post (nI l, wA, st, pc, dn, en, P, C, S, M, A, H, G, T, R, K) (nI a) := by
  have hl := ok.1.1
  have same : ∀ r, post r (nI l, wA, st, pc, dn, en, P, C, S, M, A, H, G, T, R, K) := fun r => hp r wA C M A H G T ok
  refine pk_lt a 0 (fun z => absurd z (by omega)) (fun _ => pk_lt a 64 (fun _ => ?_) (fun z => absurd z (by omega)))
  refine dh_slotOf (fun _ => br_t (by decide) ?_) (fun h h4 _ => br_f (nI_pos (by omega)) (same _))
  refine dh_slotOf (fun _ => br_f (by decide) (same _)) (fun h h4 hH => br_t (nI_pos' (by omega)) ?_)
  refine dh_isStart hl (fun j hj ej hs => br_f (by decide) ?_) (fun _ => br_t rfl (same _))
  have ej : a = j := (nI_eq (by omega) (by omega)).mp ej
  subst ej
  refine pk_le (a + 3) l (fun h3 => ?_) (fun _ => same _) (nI_add a 3)
  refine dh_headOf ok.1 hs h3 (fun n j n3 n5 han hj hc => ?_)
  refine dh_meets ok (by omega) (fun hm => dh_aimed ok.1 (fun hai => br_t rfl (br_t rfl ?_)) (br_t rfl (br_f (by decide) (same _)))) (dh_aimed ok.1 (fun _ => br_f (by decide) (same _)) (br_f (by decide) (same _)))
  refine ⟨pk_in h 4 h4, nm_r (e' := upd H h (nI a)) (by rw [nI_clamp (by omega)]) ⟨pk_in h 4 h4, nm_r (e' := upd G h (nI n)) (by rw [nI_clamp (by omega)]) ⟨pk_in h 4 h4, nm_e ?_⟩⟩⟩
  refine dh_displace ok.1 han h4 n3 n5 hj hc hs (fun w' M' A' hA1 hch hA hM => ?_)
  exact dh_over h4 n3 (by omega) (fun C' hC1 hC2 hC => hp _ _ _ _ _ _ _ _ (dh_ok_hook ok h4 hH hs n3 han hm hai hC1 hC2 hC hA1 hch hA hM))
/-- unhook -/
theorem dh_unhook (ok : dh_ok l P C S M A H G) {a : Nat} (ha : a < 64)
    (hp : ∀ (r : Int32) (C' H' : Nat → Int32), dh_ok l P C' S M A H' G → (∀ h, h < 4 → H' h = -1 ∨ (H' h = H h ∧ H h ≠ nI a)) → post r (nI l, wA, st, pc, dn, en, P, C', S, M, A, H', G, T, R, K)) :
    wpX_unhook post (nI l, wA, st, pc, dn, en, P, C, S, M, A, H, G, T, R, K) (nI a) := by
  have hl := ok.1.1
  refine pk_lt a 0 (fun z => absurd z (by omega)) (fun _ => pk_lt a 64 (fun _ => ?_) (fun z => absurd z (by omega)))
  refine dh_slotOf (fun hn => br_f (by decide) (hp _ C H ok (fun h hh => Or.inr ⟨rfl, hn h hh⟩))) (fun h h4 hH => br_t (nI_pos' (by omega)) ?_)
  rcases ok.2.1 h h4 with z | ⟨a', n, hh, hK⟩
  · exact absurd (hH.symm.trans z) (dh_m1 (by omega))
  · have h64 := hh.2.2.2
    have e : a' = a := (nI_eq (by omega) (by omega)).mp (hh.2.1.symm.trans hH)
    subst e
    refine pk_loop (fun f i (c : Nat → Int32) => wX_unhook_27 post (nI a') (nI h) (nI l) wA st pc dn en f (nI i) P c S M A H G T R K) (fun i c => (∀ j, a' ≤ j → j < a' + i → c j = P j) ∧ (∀ j, j < a' ∨ a' + i ≤ j → c j = C j)) n 0 C (by omega) ⟨fun j h1 h2 => absurd h1 (by omega), fun _ _ => rfl⟩ ?_ ?_
    · intro f c ⟨hc1, hc2⟩
      refine ⟨pk_in h 4 h4, ?_⟩
      rw [nI_clamp (show h < 2 ^ 31 by omega), hh.2.2.1]
      obtain ⟨ok', ho⟩ := dh_ok_unhook ok hh hc1 hc2
      exact pk_le n n (fun _ => ⟨pk_in h 4 h4, nm_e ⟨pk_in h 4 h4, hp _ _ _ ok' ho⟩⟩) (fun z => absurd z (by omega))
    · intro f i c hi ⟨hc1, hc2⟩ hw
      refine ⟨pk_in h 4 h4, ?_⟩
      rw [nI_clamp (show h < 2 ^ 31 by omega), hh.2.2.1]
      refine pk_le n i (fun z => absurd z (by omega)) (fun _ => ⟨pk_in (a' + i) 64 (by omega) (nI_add a' i), pk_in (a' + i) 64 (by omega) (nI_add a' i), nm_r (e' := upd c (a' + i) (P (a' + i))) (by rw [nI_add, nI_clamp (by omega)]) (nm_r (nI_1 i) (hw _ ⟨fun j h1 h2 => ?_, fun j hj => ?_⟩))⟩)
      · by_cases e : j = a' + i
        · subst e
          exact pk_us
        · rw [pk_un e]
          exact hc1 j h1 (by omega)
      · rw [pk_un (by omega)]
        exact hc2 j (by omega)
end
end
section
/-- the program grown by one instruction -/
theorem dh_wf_app {l kd : Nat} {P S P' S' : Nat → Int32} (hw : dh_wf l P S) (hk : kd < 9) (hl : l + dh_ln kd ≤ 64) (hP : ∀ j, j < l → P' j = P j) (hS : ∀ j, j < l → S' j = S j) (h0 : P' l = nI kd) (h1 : S' l ≠ 0)
    (h2 : ∀ j, l < j → j < l + dh_ln kd → S' j = 0) (h3 : 4 ≤ kd → kd ≤ 6 → ∃ b, b < 256 ∧ P' (l + dh_ln kd - 1) = nI b) : dh_wf (l + dh_ln kd) P' S' := by
  refine ⟨hl, fun x hx hs => ?_⟩
  rcases Nat.lt_trichotomy x l with z | z | z
  · have ek : dh_k P' x = dh_k P x := by
      unfold dh_k
      rw [hP x z]
    rw [hS x z] at hs
    obtain ⟨w1, w2, w3, w4, w5, w6⟩ := hw.2 x z hs
    have hp := dh_ln_pos (dh_k P x)
    rw [ek]
    refine ⟨(hP x z).trans w1, w2, by omega, fun _ => ?_, fun y hy hy' => ?_, fun h4 h6 => ?_⟩
    · by_cases e : x + dh_ln (dh_k P x) = l
      · rw [e]
        exact h1
      · rw [hS _ (by omega)]
        exact w4 (by omega)
    · rw [hS y (by omega)]
      exact w5 y hy hy'
    · rw [hP _ (by omega)]
      exact w6 h4 h6
  · subst z
    have ek : dh_k P' x = kd := by
      unfold dh_k
      rw [h0, nI_clamp (by omega)]
    rw [ek]
    exact ⟨h0, hk, Nat.le_refl _, fun z => absurd z (by omega), h2, h3⟩
  · exact absurd (h2 x z hx) hs
section
variable {l : Nat} {wA st pc dn en : Int32} {P C S M A H G T R K : Nat → Int32}
theorem dh_emit {post : St1 → Prop} {b : Int32} (hl : l < 64) (h : post (nI (l + 1), wA, st, pc, dn, en, upd P l b, upd C l b, upd S l 0, M, A, H, G, T, R, K)) :
    wpX_emit post (nI l, wA, st, pc, dn, en, P, C, S, M, A, H, G, T, R, K) b := by
  have e : (nI l).toNatClampNeg = l := nI_clamp (by omega)
  exact ⟨pk_in l 64 hl, nm_r (by rw [e]) ⟨pk_in l 64 hl, nm_r (by rw [e]) ⟨pk_in l 64 hl, nm_r (by rw [e]) (nm_r (nI_1 l) h)⟩⟩⟩
theorem dh_hooks_fr {ln : Int32} {post : Int32 → Prop} (hf : dh_fr H) (h : post 0) : wpX_hooks post (ln, wA, st, pc, dn, en, P, C, S, M, A, H, G, T, R, K) :=
  dh_hooks (fun h hh => Or.inl (hf h hh)) (fun _ => h) (fun z => absurd hf z)
theorem dh_append_no {post : Int32 → St1 → Prop} {k s t : Int32} (ok : dh_ok l P C S M A H G) (hn : ¬ dh_fr H) (h : post (-3) (nI l, wA, st, pc, dn, en, P, C, S, M, A, H, G, T, R, K)) : wpX_append post (nI l, wA, st, pc, dn, en, P, C, S, M, A, H, G, T, R, K) k s t := by
  unfold wpX_append
  exact dh_hooks_ok ok (fun z => absurd z hn) (fun _ c h0 h4 => br_f (nI_nle h0 (by omega)) h)
end
/-- append: one outcome for all objects of this program that hold no hook -/
theorem dh_append {l kd : Nat} {P S : Nat → Int32} {sec thd : Int32} (hw : dh_wf l P S) (hk : kd < 9) (hb1 : kd = 4 ∨ kd = 6 → ∃ b, b < 256 ∧ sec = nI b) (hb2 : kd = 5 → ∃ b, b < 256 ∧ thd = nI b) :
    ∃ (r : Int32) (l' : Nat) (P' S' : Nat → Int32), dh_wf l' P' S' ∧ ∀ (post : Int32 → St1 → Prop) (wA st pc dn en : Int32) (M A H G T R K : Nat → Int32), dh_fr H → post r (nI l', wA, st, pc, dn, en, P', P', S', M, A, H, G, T, R, K) → wpX_append post (nI l, wA, st, pc, dn, en, P, P, S, M, A, H, G, T, R, K) (nI kd) sec thd := by
  have hl := hw.1
  have hln := dh_ln_le kd
  by_cases hfull : 64 < l + dh_ln kd
  · refine ⟨-2, l, P, S, hw, fun post wA st pc dn en M A H G T R K hf hp => ?_⟩
    unfold wpX_append
    exact dh_hooks_fr hf (br_t (by decide) (dh_lengthOf hk (pk_le (l + dh_ln kd) 64 (fun z => absurd z (by omega)) (fun _ => hp) (nI_add l _))))
  · have hlt : ∀ {j b} {f : Nat → Int32} {x : Int32}, j < l → l ≤ b → upd f b x j = f j := fun h1 h2 => pk_un (by omega)
    have c : dh_ln kd = 1 ∨ dh_ln kd = 2 ∨ dh_ln kd = 3 := by have := dh_ln_pos kd; have := dh_ln_le kd; omega
    rcases c with c | c | c
    · refine ⟨nI l, l + 1, upd P l (nI kd), upd (upd S l 0) l 1, ?_, fun post wA st pc dn en M A H G T R K hf hp => ?_⟩
      · have hwf := dh_wf_app (kd := kd) (P' := upd P l (nI kd)) (S' := upd (upd S l 0) l 1) hw hk (by omega) (fun j hj => hlt hj (by omega)) (fun j hj => (hlt hj (by omega)).trans (hlt hj (by omega))) pk_us (by rw [pk_us]; decide) (fun j h1 h2 => absurd h2 (by omega)) (fun h4 h6 => ?_)
        · rw [c] at hwf
          exact hwf
        · exfalso
          have : kd = 4 ∨ kd = 5 ∨ kd = 6 := by omega
          rcases this with rfl | rfl | rfl <;> exact absurd c (by decide)
      · unfold wpX_append
        refine dh_hooks_fr hf (br_t (by decide) (dh_lengthOf hk (pk_le (l + dh_ln kd) 64 (fun _ => ?_) (fun z => absurd z (by omega)) (nI_add l _))))
        rw [c]
        exact dh_emit (by omega) ⟨pk_in l 64 (by omega), nm_r (by rw [nI_clamp (by omega)]) (br_t (by decide) (br_t (by decide) hp))⟩
    · refine ⟨nI l, l + 2, upd (upd P l (nI kd)) (l + 1) sec, upd (upd (upd S l 0) l 1) (l + 1) 0, ?_, fun post wA st pc dn en M A H G T R K hf hp => ?_⟩
      · have hwf := dh_wf_app (kd := kd) (P' := upd (upd P l (nI kd)) (l + 1) sec) (S' := upd (upd (upd S l 0) l 1) (l + 1) 0) hw hk (by omega) (fun j hj => (hlt hj (by omega)).trans (hlt hj (by omega))) (fun j hj => (hlt hj (by omega)).trans ((hlt hj (by omega)).trans (hlt hj (by omega)))) (by rw [pk_un (by omega), pk_us]) (by rw [pk_un (by omega), pk_us]; decide) (fun j h1 h2 => by rw [show j = l + 1 by omega, pk_us]) (fun h4 h6 => ?_)
        · rw [c] at hwf
          exact hwf
        · obtain ⟨b, hb, e⟩ := hb1 (by
            have : kd = 4 ∨ kd = 5 ∨ kd = 6 := by omega
            rcases this with rfl | rfl | rfl
            · exact Or.inl rfl
            · exact absurd c (by decide)
            · exact Or.inr rfl)
          refine ⟨b, hb, ?_⟩
          rw [c, show l + 2 - 1 = l + 1 by omega, pk_us, e]
      · unfold wpX_append
        refine dh_hooks_fr hf (br_t (by decide) (dh_lengthOf hk (pk_le (l + dh_ln kd) 64 (fun _ => ?_) (fun z => absurd z (by omega)) (nI_add l _))))
        rw [c]
        exact dh_emit (by omega) ⟨pk_in l 64 (by omega), nm_r (by rw [nI_clamp (by omega)]) (br_f (by decide) (dh_emit (by omega) (br_t (by decide) hp)))⟩
    · refine ⟨nI l, l + 3, upd (upd (upd P l (nI kd)) (l + 1) sec) (l + 2) thd, upd (upd (upd (upd S l 0) l 1) (l + 1) 0) (l + 2) 0, ?_, fun post wA st pc dn en M A H G T R K hf hp => ?_⟩
      · have hwf := dh_wf_app (kd := kd) (P' := upd (upd (upd P l (nI kd)) (l + 1) sec) (l + 2) thd) (S' := upd (upd (upd (upd S l 0) l 1) (l + 1) 0) (l + 2) 0) hw hk (by omega) (fun j hj => (hlt hj (by omega)).trans ((hlt hj (by omega)).trans (hlt hj (by omega)))) (fun j hj => (hlt hj (by omega)).trans ((hlt hj (by omega)).trans ((hlt hj (by omega)).trans (hlt hj (by omega))))) (by rw [pk_un (by omega), pk_un (by omega), pk_us]) (by rw [pk_un (by omega), pk_un (by omega), pk_us]; decide) (fun j h1 h2 => ?_) (fun h4 h6 => ?_)
        · rw [c] at hwf
          exact hwf
        · by_cases e : j = l + 2
          · rw [e, pk_us]
          · rw [pk_un e, show j = l + 1 by omega, pk_us]
        · obtain ⟨b, hb, e⟩ := hb2 (by
            have : kd = 4 ∨ kd = 5 ∨ kd = 6 := by omega
            rcases this with rfl | rfl | rfl
            · exact absurd c (by decide)
            · rfl
            · exact absurd c (by decide))
          refine ⟨b, hb, ?_⟩
          rw [c, show l + 3 - 1 = l + 2 by omega, pk_us, e]
      · unfold wpX_append
        refine dh_hooks_fr hf (br_t (by decide) (dh_lengthOf hk (pk_le (l + dh_ln kd) 64 (fun _ => ?_) (fun z => absurd z (by omega)) (nI_add l _))))
        rw [c]
        exact dh_emit (by omega) ⟨pk_in l 64 (by omega), nm_r (by rw [nI_clamp (by omega)]) (br_f (by decide) (dh_emit (by omega) (br_f (by decide) (dh_emit (by omega) hp))))⟩
/-! the law's append -/
theorem dh_bt1 : ∀ t, t < 32 → ¬ (nI t - 16 < -128) ∧ nI t - 16 ≤ 127 := by decide +kernel
theorem dh_bt2 : ∀ t, t < 32 → (0 ≤ nI t - 16 → nI t - 16 = nI (if 16 ≤ t then t - 16 else t + 240)) ∧ (¬ 0 ≤ nI t - 16 → nI t - 16 + 256 = nI (if 16 ≤ t then t - 16 else t + 240)) := by decide +kernel
section
variable {ln wA st pc dn en : Int32} {P C S M A H G T R K : Nat → Int32} {post : Int32 → Prop}
theorem dh_badTarget {t : Nat} (ht : t < 32) (h : post 0) : wpX_badTarget post (ln, wA, st, pc, dn, en, P, C, S, M, A, H, G, T, R, K) (nI t - 16) := br_f (dh_bt1 t ht).1 (br_t (dh_bt1 t ht).2 h)
theorem dh_asByte {t : Nat} (ht : t < 32) (h : post (nI (if 16 ≤ t then t - 16 else t + 240))) : wpX_asByte post (ln, wA, st, pc, dn, en, P, C, S, M, A, H, G, T, R, K) (nI t - 16) :=
  br_c (fun z => by rw [(dh_bt2 t ht).1 z]; exact h) (fun z => by rw [(dh_bt2 t ht).2 z]; exact h)
end
section
variable {ln wA st pc dn en : Int32} {P C S M A H G T R K : Nat → Int32} {v1 v2 v3 v4 v5 v6 r : Int32} {v7 v8 v9 v10 v11 v12 v13 v14 v15 v16 : Nat → Int32} {post : Int32 → St1 → Prop} {q q2 t : Nat}
theorem dh_halt  (hA : ∀ ψ : Int32 → St1 → Prop, ψ r (v1, v2, v3, v4, v5, v6, v7, v8, v9, v10, v11, v12, v13, v14, v15, v16) → wpX_append ψ (ln, wA, st, pc, dn, en, P, C, S, M, A, H, G, T, R, K) (nI 0) 0 0) (hp : post r (v1, v2, v3, v4, v5, v6, v7, v8, v9, v10, v11, v12, v13, v14, v15, v16)) : wpX_halt post (ln, wA, st, pc, dn, en, P, C, S, M, A, H, G, T, R, K) := by
  unfold wpX_halt
  exact hA _ hp
theorem dh_inc (hq : q < 4) (hA : ∀ ψ : Int32 → St1 → Prop, ψ r (v1, v2, v3, v4, v5, v6, v7, v8, v9, v10, v11, v12, v13, v14, v15, v16) → wpX_append ψ (ln, wA, st, pc, dn, en, P, C, S, M, A, H, G, T, R, K) (nI 1) (nI q) 0) (hp : post r (v1, v2, v3, v4, v5, v6, v7, v8, v9, v10, v11, v12, v13, v14, v15, v16)) : wpX_inc post (ln, wA, st, pc, dn, en, P, C, S, M, A, H, G, T, R, K) (nI q) := by
  unfold wpX_inc
  exact dh_badReg hq (br_t rfl (hA _ hp))
theorem dh_dec (hq : q < 4) (hA : ∀ ψ : Int32 → St1 → Prop, ψ r (v1, v2, v3, v4, v5, v6, v7, v8, v9, v10, v11, v12, v13, v14, v15, v16) → wpX_append ψ (ln, wA, st, pc, dn, en, P, C, S, M, A, H, G, T, R, K) (nI 2) (nI q) 0) (hp : post r (v1, v2, v3, v4, v5, v6, v7, v8, v9, v10, v11, v12, v13, v14, v15, v16)) : wpX_dec post (ln, wA, st, pc, dn, en, P, C, S, M, A, H, G, T, R, K) (nI q) := by
  unfold wpX_dec
  exact dh_badReg hq (br_t rfl (hA _ hp))
theorem dh_move (hq : q < 4) (hq2 : q2 < 4) (hA : ∀ ψ : Int32 → St1 → Prop, ψ r (v1, v2, v3, v4, v5, v6, v7, v8, v9, v10, v11, v12, v13, v14, v15, v16) → wpX_append ψ (ln, wA, st, pc, dn, en, P, C, S, M, A, H, G, T, R, K) (nI 3) (nI q + 4 * nI q2) 0) (hp : post r (v1, v2, v3, v4, v5, v6, v7, v8, v9, v10, v11, v12, v13, v14, v15, v16)) : wpX_move post (ln, wA, st, pc, dn, en, P, C, S, M, A, H, G, T, R, K) (nI q) (nI q2) := by
  unfold wpX_move
  exact dh_badReg hq (br_t rfl (dh_badReg hq2 (br_t rfl (hA _ hp))))
theorem dh_jump (ht : t < 32) (hA : ∀ ψ : Int32 → St1 → Prop, ψ r (v1, v2, v3, v4, v5, v6, v7, v8, v9, v10, v11, v12, v13, v14, v15, v16) → wpX_append ψ (ln, wA, st, pc, dn, en, P, C, S, M, A, H, G, T, R, K) (nI 4) (nI (if 16 ≤ t then t - 16 else t + 240)) 0) (hp : post r (v1, v2, v3, v4, v5, v6, v7, v8, v9, v10, v11, v12, v13, v14, v15, v16)) : wpX_jump post (ln, wA, st, pc, dn, en, P, C, S, M, A, H, G, T, R, K) (nI t - 16) := by
  unfold wpX_jump
  exact dh_badTarget ht (br_t rfl (dh_asByte ht (hA _ hp)))
theorem dh_branch (hq : q < 4) (ht : t < 32) (hA : ∀ ψ : Int32 → St1 → Prop, ψ r (v1, v2, v3, v4, v5, v6, v7, v8, v9, v10, v11, v12, v13, v14, v15, v16) → wpX_append ψ (ln, wA, st, pc, dn, en, P, C, S, M, A, H, G, T, R, K) (nI 5) (nI q) (nI (if 16 ≤ t then t - 16 else t + 240))) (hp : post r (v1, v2, v3, v4, v5, v6, v7, v8, v9, v10, v11, v12, v13, v14, v15, v16)) : wpX_branch post (ln, wA, st, pc, dn, en, P, C, S, M, A, H, G, T, R, K) (nI q) (nI t - 16) := by
  unfold wpX_branch
  exact dh_badReg hq (br_t rfl (dh_badTarget ht (br_t rfl (dh_asByte ht (hA _ hp)))))
theorem dh_call (ht : t < 32) (hA : ∀ ψ : Int32 → St1 → Prop, ψ r (v1, v2, v3, v4, v5, v6, v7, v8, v9, v10, v11, v12, v13, v14, v15, v16) → wpX_append ψ (ln, wA, st, pc, dn, en, P, C, S, M, A, H, G, T, R, K) (nI 6) (nI (if 16 ≤ t then t - 16 else t + 240)) 0) (hp : post r (v1, v2, v3, v4, v5, v6, v7, v8, v9, v10, v11, v12, v13, v14, v15, v16)) : wpX_call post (ln, wA, st, pc, dn, en, P, C, S, M, A, H, G, T, R, K) (nI t - 16) := by
  unfold wpX_call
  exact dh_badTarget ht (br_t rfl (dh_asByte ht (hA _ hp)))
theorem dh_giveBack  (hA : ∀ ψ : Int32 → St1 → Prop, ψ r (v1, v2, v3, v4, v5, v6, v7, v8, v9, v10, v11, v12, v13, v14, v15, v16) → wpX_append ψ (ln, wA, st, pc, dn, en, P, C, S, M, A, H, G, T, R, K) (nI 7) 0 0) (hp : post r (v1, v2, v3, v4, v5, v6, v7, v8, v9, v10, v11, v12, v13, v14, v15, v16)) : wpX_giveBack post (ln, wA, st, pc, dn, en, P, C, S, M, A, H, G, T, R, K) := by
  unfold wpX_giveBack
  exact hA _ hp
theorem dh_where (hq : q < 4) (hA : ∀ ψ : Int32 → St1 → Prop, ψ r (v1, v2, v3, v4, v5, v6, v7, v8, v9, v10, v11, v12, v13, v14, v15, v16) → wpX_append ψ (ln, wA, st, pc, dn, en, P, C, S, M, A, H, G, T, R, K) (nI 8) (nI q) 0) (hp : post r (v1, v2, v3, v4, v5, v6, v7, v8, v9, v10, v11, v12, v13, v14, v15, v16)) : wpX_where post (ln, wA, st, pc, dn, en, P, C, S, M, A, H, G, T, R, K) (nI q) := by
  unfold wpX_where
  exact dh_badReg hq (br_t rfl (hA _ hp))
end
theorem dh_lwalk (op x : Int32) : ∃ (kd : Nat) (sec thd : Int32), kd < 9 ∧ (kd = 4 ∨ kd = 6 → ∃ b, b < 256 ∧ sec = nI b) ∧ (kd = 5 → ∃ b, b < 256 ∧ thd = nI b) ∧
    ∀ (u u' : St1) (r : Int32) (post : Int32 → St1 → Prop), (∀ ψ : Int32 → St1 → Prop, ψ r u' → wpX_append ψ u (nI kd) sec thd) → post r u' → wpL_append post u op x := by
  obtain ⟨o, ho, eo⟩ := pk_andE op (m := 15) 4 (by decide)
  obtain ⟨q, hq, eq⟩ := pk_andE x (m := 3) 2 (by decide)
  obtain ⟨t, ht, et⟩ := pk_andE (x >>> ((4 : Int32) &&& 31)) (m := 31) 5 (by decide)
  obtain ⟨q2, hq2, eq2⟩ := pk_andE (x >>> ((2 : Int32) &&& 31)) (m := 3) 2 (by decide)
  have ho : o < 16 := ho
  have hq : q < 4 := hq
  have ht : t < 32 := ht
  have hq2 : q2 < 4 := hq2
  have ebb : ∃ b, b < 256 ∧ nI (if 16 ≤ t then t - 16 else t + 240) = nI b := ⟨_, by split <;> omega, rfl⟩
  have et' : (x >>> ((4 : Int32) &&& 31) &&& 31) - 16 = nI t - 16 := by rw [et]
  have c : o = 0 ∨ (1 ≤ o ∧ o < 3) ∨ (3 ≤ o ∧ o < 5) ∨ o = 5 ∨ o = 6 ∨ (7 ≤ o ∧ o < 10) ∨ (10 ≤ o ∧ o < 12) ∨ o = 12 ∨ 13 ≤ o := by omega

  rcases c with c | c | c | c | c | c | c | c | c
  · refine ⟨0, 0, 0, by decide, fun z => absurd z (by decide), fun z => absurd z (by decide), fun u u' r post hA hp => ?_⟩
    obtain ⟨u1, u2, u3, u4, u5, u6, u7, u8, u9, u10, u11, u12, u13, u14, u15, u16⟩ := u
    obtain ⟨v1, v2, v3, v4, v5, v6, v7, v8, v9, v10, v11, v12, v13, v14, v15, v16⟩ := u'
    exact nm_r eo (nm_r eq (nm_r et' (pk_eq o 0 (fun _ => dh_halt hA hp) (fun z => absurd z (by omega)))))
  · refine ⟨1, nI q, 0, by decide, fun z => absurd z (by decide), fun z => absurd z (by decide), fun u u' r post hA hp => ?_⟩
    obtain ⟨u1, u2, u3, u4, u5, u6, u7, u8, u9, u10, u11, u12, u13, u14, u15, u16⟩ := u
    obtain ⟨v1, v2, v3, v4, v5, v6, v7, v8, v9, v10, v11, v12, v13, v14, v15, v16⟩ := u'
    exact nm_r eo (nm_r eq (nm_r et' (pk_eq o 0 (fun z => absurd z (by omega)) (fun _ => pk_le 3 o (fun z => absurd z (by omega)) (fun _ => dh_inc hq hA hp)))))
  · refine ⟨2, nI q, 0, by decide, fun z => absurd z (by decide), fun z => absurd z (by decide), fun u u' r post hA hp => ?_⟩
    obtain ⟨u1, u2, u3, u4, u5, u6, u7, u8, u9, u10, u11, u12, u13, u14, u15, u16⟩ := u
    obtain ⟨v1, v2, v3, v4, v5, v6, v7, v8, v9, v10, v11, v12, v13, v14, v15, v16⟩ := u'
    exact nm_r eo (nm_r eq (nm_r et' (pk_eq o 0 (fun z => absurd z (by omega)) (fun _ => pk_le 3 o (fun _ => pk_le 5 o (fun z => absurd z (by omega)) (fun _ => dh_dec hq hA hp)) (fun z => absurd z (by omega))))))
  · refine ⟨3, nI q + 4 * nI q2, 0, by decide, fun z => absurd z (by decide), fun z => absurd z (by decide), fun u u' r post hA hp => ?_⟩
    obtain ⟨u1, u2, u3, u4, u5, u6, u7, u8, u9, u10, u11, u12, u13, u14, u15, u16⟩ := u
    obtain ⟨v1, v2, v3, v4, v5, v6, v7, v8, v9, v10, v11, v12, v13, v14, v15, v16⟩ := u'
    refine nm_r eo (nm_r eq (nm_r et' (pk_eq o 0 (fun z => absurd z (by omega)) (fun _ => pk_le 3 o (fun _ => pk_le 5 o (fun _ => pk_eq o 5 (fun _ => ?_) (fun z => absurd z (by omega))) (fun z => absurd z (by omega))) (fun z => absurd z (by omega))))))
    rw [eq2]
    exact dh_move hq hq2 hA hp
  · refine ⟨4, nI (if 16 ≤ t then t - 16 else t + 240), 0, by decide, fun _ => ebb, fun z => absurd z (by decide), fun u u' r post hA hp => ?_⟩
    obtain ⟨u1, u2, u3, u4, u5, u6, u7, u8, u9, u10, u11, u12, u13, u14, u15, u16⟩ := u
    obtain ⟨v1, v2, v3, v4, v5, v6, v7, v8, v9, v10, v11, v12, v13, v14, v15, v16⟩ := u'
    exact nm_r eo (nm_r eq (nm_r et' (pk_eq o 0 (fun z => absurd z (by omega)) (fun _ => pk_le 3 o (fun _ => pk_le 5 o (fun _ => pk_eq o 5 (fun z => absurd z (by omega)) (fun _ => pk_eq o 6 (fun _ => dh_jump ht hA hp) (fun z => absurd z (by omega)))) (fun z => absurd z (by omega))) (fun z => absurd z (by omega))))))
  · refine ⟨5, nI q, nI (if 16 ≤ t then t - 16 else t + 240), by decide, fun z => absurd z (by decide), fun _ => ebb, fun u u' r post hA hp => ?_⟩
    obtain ⟨u1, u2, u3, u4, u5, u6, u7, u8, u9, u10, u11, u12, u13, u14, u15, u16⟩ := u
    obtain ⟨v1, v2, v3, v4, v5, v6, v7, v8, v9, v10, v11, v12, v13, v14, v15, v16⟩ := u'
    exact nm_r eo (nm_r eq (nm_r et' (pk_eq o 0 (fun z => absurd z (by omega)) (fun _ => pk_le 3 o (fun _ => pk_le 5 o (fun _ => pk_eq o 5 (fun z => absurd z (by omega)) (fun _ => pk_eq o 6 (fun z => absurd z (by omega)) (fun _ => pk_le 10 o (fun z => absurd z (by omega)) (fun _ => dh_branch hq ht hA hp)))) (fun z => absurd z (by omega))) (fun z => absurd z (by omega))))))
  · refine ⟨6, nI (if 16 ≤ t then t - 16 else t + 240), 0, by decide, fun _ => ebb, fun z => absurd z (by decide), fun u u' r post hA hp => ?_⟩
    obtain ⟨u1, u2, u3, u4, u5, u6, u7, u8, u9, u10, u11, u12, u13, u14, u15, u16⟩ := u
    obtain ⟨v1, v2, v3, v4, v5, v6, v7, v8, v9, v10, v11, v12, v13, v14, v15, v16⟩ := u'
    exact nm_r eo (nm_r eq (nm_r et' (pk_eq o 0 (fun z => absurd z (by omega)) (fun _ => pk_le 3 o (fun _ => pk_le 5 o (fun _ => pk_eq o 5 (fun z => absurd z (by omega)) (fun _ => pk_eq o 6 (fun z => absurd z (by omega)) (fun _ => pk_le 10 o (fun _ => pk_le 12 o (fun z => absurd z (by omega)) (fun _ => dh_call ht hA hp)) (fun z => absurd z (by omega))))) (fun z => absurd z (by omega))) (fun z => absurd z (by omega))))))
  · refine ⟨7, 0, 0, by decide, fun z => absurd z (by decide), fun z => absurd z (by decide), fun u u' r post hA hp => ?_⟩
    obtain ⟨u1, u2, u3, u4, u5, u6, u7, u8, u9, u10, u11, u12, u13, u14, u15, u16⟩ := u
    obtain ⟨v1, v2, v3, v4, v5, v6, v7, v8, v9, v10, v11, v12, v13, v14, v15, v16⟩ := u'
    exact nm_r eo (nm_r eq (nm_r et' (pk_eq o 0 (fun z => absurd z (by omega)) (fun _ => pk_le 3 o (fun _ => pk_le 5 o (fun _ => pk_eq o 5 (fun z => absurd z (by omega)) (fun _ => pk_eq o 6 (fun z => absurd z (by omega)) (fun _ => pk_le 10 o (fun _ => pk_le 12 o (fun _ => pk_eq o 12 (fun _ => dh_giveBack hA hp) (fun z => absurd z (by omega))) (fun z => absurd z (by omega))) (fun z => absurd z (by omega))))) (fun z => absurd z (by omega))) (fun z => absurd z (by omega))))))
  · refine ⟨8, nI q, 0, by decide, fun z => absurd z (by decide), fun z => absurd z (by decide), fun u u' r post hA hp => ?_⟩
    obtain ⟨u1, u2, u3, u4, u5, u6, u7, u8, u9, u10, u11, u12, u13, u14, u15, u16⟩ := u
    obtain ⟨v1, v2, v3, v4, v5, v6, v7, v8, v9, v10, v11, v12, v13, v14, v15, v16⟩ := u'
    exact nm_r eo (nm_r eq (nm_r et' (pk_eq o 0 (fun z => absurd z (by omega)) (fun _ => pk_le 3 o (fun _ => pk_le 5 o (fun _ => pk_eq o 5 (fun z => absurd z (by omega)) (fun _ => pk_eq o 6 (fun z => absurd z (by omega)) (fun _ => pk_le 10 o (fun _ => pk_le 12 o (fun _ => pk_eq o 12 (fun z => absurd z (by omega)) (fun _ => dh_where hq hA hp)) (fun z => absurd z (by omega))) (fun z => absurd z (by omega))))) (fun z => absurd z (by omega))) (fun z => absurd z (by omega))))))
section
variable {l : Nat} {wA st pc dn en : Int32} {P C S M A H G T R K : Nat → Int32} {wA' st' pc' : Int32} {C' M' A' H' G' T' K' : Nat → Int32}
theorem dh_clear {post : Int32 → St1 → Prop} (hf : dh_fr H) (h : post (nI l) (nI 0, wA, st, pc, dn, en, P, C, S, M, A, H, G, T, R, K)) : wpX_clear post (nI l, wA, st, pc, dn, en, P, C, S, M, A, H, G, T, R, K) := by
  unfold wpX_clear
  exact dh_hooks_fr hf (br_t (by decide) h)
theorem dh_setReg {post : Int32 → St1 → Prop} {ln v : Int32} {r : Nat} (hr : r < 4) (h : post 0 (ln, wA, st, pc, dn, en, P, C, S, M, A, H, G, T, upd R r v, K)) : wpX_setRegister post (ln, wA, st, pc, dn, en, P, C, S, M, A, H, G, T, R, K) (nI r) v := by
  unfold wpX_setRegister
  exact dh_badReg hr (br_t rfl ⟨pk_in r 4 hr, nm_r (by rw [nI_clamp (by omega)]) h⟩)
theorem dh_peek {post : Int32 → Prop} {x : Nat} (hl : l ≤ 64) (hx : x < 2 ^ 31) (h : post (if x < l then P x else -1)) : wpX_peek post (nI l, wA, st, pc, dn, en, P, C, S, M, A, H, G, T, R, K) (nI x) := by
  refine pk_lt x 0 (fun z => absurd z (by omega)) (fun _ => pk_lt x l (fun z => ⟨pk_in x 64 (by omega), ?_⟩) (fun z => ?_))
  · rw [nI_clamp hx]
    rw [if_pos z] at h
    exact h
  · rw [if_neg (by omega)] at h
    exact h
theorem dh_peeks {post : Int32 → Prop} (hl : l ≤ 64) (h : post 1) : wpL_peeksAgree post (nI l, wA, st, pc, dn, en, P, C, S, M, A, H, G, T, R, K, nI l, wA', st', pc', dn, en, P, C', S, M', A', H', G', T', R, K') := by
  have key : ∃ n, wL_peeksAgree_2 post (nI l) wA st pc dn en P C S M A H G T R K (nI l) wA' st' pc' dn en P C' S M' A' H' G' T' R K' n (nI 0) := by
    refine pk_loop (σ := Unit) (fun n i _ => wL_peeksAgree_2 post (nI l) wA st pc dn en P C S M A H G T R K (nI l) wA' st' pc' dn en P C' S M' A' H' G' T' R K' n (nI i)) (fun _ _ => True) 65 0 () (by omega) trivial ?_ ?_
    · intro n _ _
      exact pk_lt 64 65 (fun _ => br_t rfl h) (fun z => absurd z (by omega))
    · intro n i _ hi _ hw
      exact pk_lt 64 i (fun z => absurd z (by omega)) (fun _ => dh_peek hl (by omega) (dh_peek hl (by omega) (br_t rfl (nm_r (nI_1 i) (hw () trivial)))))
  exact key
theorem dh_same {post : Int32 → Prop} (h : post 1) : wpL_same post (nI l, wA, st, pc, dn, en, P, C, S, M, A, H, G, T, R, K, nI l, wA', st', pc', dn, en, P, C', S, M', A', H', G', T', R, K') := by
  unfold wpL_same
  refine br_t rfl (br_t rfl ?_)
  refine dh_register (r := 0) (by omega) (dh_register (r := 0) (by omega) (br_t rfl ?_))
  refine dh_register (r := 1) (by omega) (dh_register (r := 1) (by omega) (br_t rfl ?_))
  refine dh_register (r := 2) (by omega) (dh_register (r := 2) (by omega) (br_t rfl ?_))
  exact dh_register (r := 3) (by omega) (dh_register (r := 3) (by omega) (br_t rfl h))
end
theorem dh_init {post : St1 → Prop} (h : ∀ H', dh_fr H' → post (0, 0, 0, 0, 0, 0, (fun _ => 0), (fun _ => 0), (fun _ => 0), (fun _ => 0), (fun _ => 0), H', (fun _ => 0), (fun _ => 0), (fun _ => 0), (fun _ => 0))) : wpX_init post 10 344 (0, 0, 0, 0, 0, 0) := by
  have key : ∃ n, wX_init_82 post 10 344 10 344 0 0 0 0 0 0 n (nI 0) (fun _ => 0) (fun _ => 0) (fun _ => 0) (fun _ => 0) (fun _ => 0) (fun _ => 0) (fun _ => 0) (fun _ => 0) (fun _ => 0) (fun _ => 0) := by
    refine pk_loop (fun n i (c : Nat → Int32) => wX_init_82 post 10 344 10 344 0 0 0 0 0 0 n (nI i) (fun _ => 0) (fun _ => 0) (fun _ => 0) (fun _ => 0) (fun _ => 0) c (fun _ => 0) (fun _ => 0) (fun _ => 0) (fun _ => 0)) (fun i c => ∀ h, h < i → c h = -1) 4 0 (fun _ => 0) (by omega) (fun h z => absurd z (by omega)) ?_ ?_
    · intro n c hc
      exact pk_le 4 4 (fun _ => h c hc) (fun z => absurd z (by omega))
    · intro n i c hi hc hw
      refine pk_le 4 i (fun z => absurd z (by omega)) (fun _ => ⟨pk_in i 4 hi, nm_r (e' := upd c i (-1)) (by rw [nI_clamp (by omega)]) (nm_r (nI_1 i) (hw _ (lt_s (fun h hh => ?_) pk_us)))⟩)
      rw [pk_un (by omega)]
      exact hc h hh
  exact ⟨by omega, by omega, by omega, by omega, by omega, by omega, by omega, by omega, by omega, by omega, by omega, by omega, by omega, by omega, by omega, by omega, by omega, by omega, by omega, by omega, key⟩
end
section
abbrev dh_JT : Type := Int32 → Int32 → Int32 → Int32 → Int32 → Int32 → Int32 → (Nat → Int32) → (Nat → Int32) → (Nat → Int32) → (Nat → Int32) → (Nat → Int32) → (Nat → Int32) → (Nat → Int32) → (Nat → Int32) → (Nat → Int32) → (Nat → Int32) → Int32 → Int32 → Int32 → Int32 → Int32 → Int32 → (Nat → Int32) → (Nat → Int32) → (Nat → Int32) → (Nat → Int32) → (Nat → Int32) → (Nat → Int32) → (Nat → Int32) → (Nat → Int32) → (Nat → Int32) → (Nat → Int32) → Prop
/-- the law's invariant goes on at counter x -/
def dh_go (J : dh_JT) (x : Int32) : Prop := ∀ (l : Nat) (wA st pc dn en : Int32) (P C S M A H G T R K : Nat → Int32) (wA' st' pc' : Int32) (M' A' H' G' T' K' : Nat → Int32), dh_ok l P C S M A H G → dh_fr H' → J x (nI l) wA st pc dn en P C S M A H G T R K (nI l) wA' st' pc' dn en P P S M' A' H' G' T' R K'
section
variable {l : Nat} {wA st pc dn en : Int32} {P C S M A H G T R K : Nat → Int32} {wA' st' pc' : Int32} {M' A' H' G' T' K' : Nat → Int32} {L : Nat} {xs : Nat → Int32} {J : dh_JT} {kc ks : Nat}
theorem dh_254 {x3 : Int32} {i : Nat} (e : x3 = nI i) (ok : dh_ok l P C S M A H G) (hf : dh_fr H') (hJ : dh_go J (nI (i + 2))) : wL_law_254 (fun r => r = 1) L xs J x3 kc ks (nI l) wA st pc dn en P C S M A H G T R K (nI l) wA' st' pc' dn en P P S M' A' H' G' T' R K' := by
  subst e
  unfold wL_law_254
  exact dh_same (br_f (by decide) (nm_r (nI_add i 2) (hJ _ _ _ _ _ _ _ _ _ _ _ _ _ _ _ _ _ _ _ _ _ _ _ _ _ ok hf)))
theorem dh_94 {x3 x7 z0 : Int32} {i : Nat} (e : x3 = nI i) (e2 : x7 = z0) (ok : dh_ok l P C S M A H G) (hf : dh_fr H') (hJ : dh_go J (nI (i + 2))) : wL_law_94 (fun r => r = 1) L xs J x3 x7 z0 kc ks (nI l) wA st pc dn en P C S M A H G T R K (nI l) wA' st' pc' dn en P P S M' A' H' G' T' R K' := by
  unfold wL_law_94
  exact br_t e2 (dh_254 e ok hf hJ)
/-- one turn of the law's loop -/
theorem dh_55 {x5 z0 : Int32} {i o : Nat} (ho : o < 16) (hi : i < L) (hL : L ≤ 260) (ok : dh_ok l P C S M A H G) (hf : dh_fr H') (hz : (z0 = 1 ∧ dh_fr H) ∨ (z0 = 0 ∧ ¬ dh_fr H)) (hJ : dh_go J (nI (i + 2))) :
    wL_law_55 (fun r => r = 1) L xs J (nI i) (nI o) x5 z0 kc ks (nI l) wA st pc dn en P C S M A H G T R K (nI l) wA' st' pc' dn en P P S M' A' H' G' T' R K' := by
  have hl := ok.1.1
  obtain ⟨q, hq, eq⟩ := pk_andE x5 (m := 3) 2 (by decide)
  obtain ⟨a, ha, ea⟩ := pk_andE x5 (m := 31) 5 (by decide)
  have hq : q < 4 := hq
  have ha : a < 32 := ha
  unfold wL_law_55
  rw [eq, ea]
  refine pk_le 8 o (fun h8 => pk_eq o 8 (fun _ => ?_) (fun _ => pk_le 11 o (fun h11 => pk_eq o 11 (fun _ => ?_) (fun _ => pk_le 15 o (fun h15 => ?_) (fun h15 => ?_))) (fun h11 => ?_))) (fun h8 => ?_)
  · exact dh_setReg hq (dh_setReg hq (dh_254 rfl ok hf hJ))
  · exact dh_unhook ok (by omega) (fun r C1 H1 ok1 _ => dh_254 rfl ok1 hf hJ)
  · refine br_c (fun _ => ?_) (fun _ => dh_254 rfl ok hf hJ)
    rcases hz with ⟨rfl, hfr⟩ | ⟨rfl, hnf⟩
    · have eC := dh_fr_C ok hfr
      subst eC
      refine br_f (by decide) (dh_clear hfr (dh_clear hf ?_))
      exact dh_254 (l := 0) rfl (dh_ok_fr ⟨by omega, fun x hx => absurd hx (by omega)⟩ hfr) hf hJ
    · exact br_t rfl (dh_254 rfl ok hf hJ)
  · refine dh_run ok (by omega) (fun t T1 st1 pc1 K1 s1 e1 n1 => ?_)
    refine dh_run (dh_ok_fr ok.1 hf) (by omega) (fun t2 T2 st2 pc2 K2 s2 e2 n2 => ?_)
    have e12 : s1 = s2 := by
      rw [e1, e2]
      rw [e1] at n1
      rw [e2] at n2
      exact dh_it_u n1 n2
    clear e1 e2
    subst e12
    exact br_t rfl (dh_254 rfl ok hf hJ)
  · exact dh_hook ok (by omega) (fun r w1 C1 M1 A1 H1 G1 T1 ok1 => dh_254 rfl ok1 hf hJ)
  · refine ⟨pk_in i L hi, ?_⟩
    obtain ⟨kd, sec, thd, hk, hb1, hb2, walk⟩ := dh_lwalk (xs (nI i).toNatClampNeg) x5
    rcases hz with ⟨rfl, hfr⟩ | ⟨rfl, hnf⟩
    · have eC := dh_fr_C ok hfr
      subst eC
      obtain ⟨r, l1, P1, S1, wf1, out⟩ := dh_append ok.1 hk hb1 hb2
      refine walk _ (nI l1, wA, st, pc, dn, en, P1, P1, S1, M, A, H, G, T, R, K) r _ (fun ψ hψ => out ψ wA st pc dn en M A H G T R K hfr hψ) ?_
      refine br_f (by decide) ⟨pk_in i L hi, ?_⟩
      refine walk _ (nI l1, wA', st', pc', dn, en, P1, P1, S1, M', A', H', G', T', R, K') r _ (fun ψ hψ => out ψ wA' st' pc' dn en M' A' H' G' T' R K' hf hψ) ?_
      exact dh_94 rfl rfl (dh_ok_fr wf1 hfr) hf hJ
    · refine walk _ (nI l, wA, st, pc, dn, en, P, C, S, M, A, H, G, T, R, K) (-3) _ (fun ψ hψ => dh_append_no ok hnf hψ) ?_
      exact br_t rfl (dh_94 rfl rfl ok hf hJ)
end
/-- the law's last loop -/
theorem dh_282 {L : Nat} {xs : Nat → Int32} {kc ks : Nat} : ∀ (f a : Nat) (l : Nat) (wA st pc dn en : Int32) (P C S M A H G T R K : Nat → Int32) (wA' st' pc' : Int32) (M' A' H' G' T' K' : Nat → Int32), a ≤ 64 → 64 < f + a → dh_ok l P C S M A H G → dh_fr H' → (∀ h, h < 4 → ∀ j, j < a → H h ≠ nI j) →
    wL_law_282 (fun r => r = 1) L xs kc ks f (nI a) (nI l) wA st pc dn en P C S M A H G T R K (nI l) wA' st' pc' dn en P P S M' A' H' G' T' R K' := by
  intro f
  induction f with
  | zero => intro a l wA st pc dn en P C S M A H G T R K wA' st' pc' M' A' H' G' T' K' h1 h2; omega
  | succ f ih =>
    intro a l wA st pc dn en P C S M A H G T R K wA' st' pc' M' A' H' G' T' K' h1 h2 ok hf hn
    have hl := ok.1.1
    refine pk_le 64 a (fun z => ?_) (fun z => ?_)
    · have hfr : dh_fr H := by
        intro h hh
        rcases ok.2.1 h hh with e | ⟨b, n, x, _⟩
        · exact e
        · exact absurd x.2.1 (hn h hh b (by have := x.2.2.2; omega))
      exact dh_hooks_fr hfr (br_t rfl (dh_same (br_f (by decide) (dh_peeks hl (br_f (by decide) rfl)))))
    · refine dh_unhook ok z (fun r C1 H1 ok1 ho => nm_r (nI_1 a) (ih (a + 1) _ _ _ _ _ _ _ _ _ _ _ _ _ _ _ _ _ _ _ _ _ _ _ _ _ (by omega) (by omega) ok1 hf (fun h hh j hj e => ?_)))
      rcases ho h hh with y | ⟨y1, y2⟩
      · exact dh_m1 (a := j) (by omega) (e.symm.trans y)
      · by_cases ej : j = a
        · subst ej
          exact y2 (y1.symm.trans e)
        · exact hn h hh j (by omega) (y1.symm.trans e)
/-- the law's loop -/
theorem dh_18 {L : Nat} {xs : Nat → Int32} {kc ks : Nat} (hL : L ≤ 260) : ∀ (f i : Nat), i ≤ L → L < f + i → dh_go (wL_law_18 (fun r => r = 1) L xs kc ks f) (nI i) := by
  intro f
  induction f with
  | zero => intro i h1 h2; omega
  | succ f ih =>
    intro i h1 h2 l wA st pc dn en P C S M A H G T R K wA' st' pc' M' A' H' G' T' K' ok hf
    have hl := ok.1.1
    refine pk_le L (i + 1) (fun z => ?_) (fun z => ?_) rfl (nI_1 i)
    · exact dh_peeks hl (br_f (by decide) ⟨65, dh_282 65 0 _ _ _ _ _ _ _ _ _ _ _ _ _ _ _ _ _ _ _ _ _ _ _ _ _ (by omega) (by omega) ok hf (fun h hh j hj => absurd hj (by omega))⟩)
    · obtain ⟨o, ho, eo⟩ := pk_andE (xs (nI i).toNatClampNeg >>> ((4 : Int32) &&& 31)) (m := 15) 4 (by decide)
      have ho : o < 16 := ho
      have hJ := ih (i + 2) (by omega) (by omega)
      refine ⟨pk_in i L (by omega), nm_r eo ⟨pk_in (i + 1) L z (nI_1 i), nm_e ?_⟩⟩
      exact dh_hooks_ok ok (fun hfr => br_t rfl (dh_55 ho (by omega) hL ok hf (Or.inl ⟨rfl, hfr⟩) hJ)) (fun hnf c h0 h4 => br_f (nI_ne0 h0 (by omega)) (dh_55 ho (by omega) hL ok hf (Or.inr ⟨rfl, hnf⟩) hJ))
theorem i_vc (xs : Nat → Int32) (L : Nat) (hL : L ≤ 260) : wpL_law (fun r => r = 1) L xs := by
  refine ⟨10, 344, by omega, by omega, dh_init fun H1 hf1 => ⟨by omega, by omega, 10, 344, by omega, by omega, dh_init fun H2 hf2 => ⟨L + 1, ?_⟩⟩⟩
  exact dh_18 hL (L + 1) 0 (by omega) (by omega) 0 0 0 0 0 0 _ _ _ _ _ _ _ _ _ _ 0 0 0 _ _ _ _ _ _ (dh_ok_fr ⟨by omega, fun x hx => absurd hx (by omega)⟩ hf1) hf2
end
