section
/-- the table after k groups: the place of a block's latest record, -1 if it has none -/
def zl_tab (B : Nat → Nat) : Nat → Nat → Int32
  | 0, _ => -1
  | k + 1, j => if B k = j then nI (2 * k) else zl_tab B k j
/-- a block's stored value after k groups -/
def zl_val (B : Nat → Nat) (V : Nat → Int32) : Nat → Nat → Int32
  | 0, _ => 0
  | k + 1, j => if B k = j then V k else zl_val B V k j
/-- the device holds k groups of one record and a mark, all in zone 0; the other zones are empty -/
def zl_R (B : Nat → Nat) (V : Nat → Int32) (k : Nat) (gn : Int32) (a1 a2 a3 a4 a5 : Nat → Int32) : Prop :=
  gn = nI k ∧ (∀ i, i < k → B i < 16 ∧ a1 (2 * i) = nI (B i) ∧ a2 (2 * i) = V i ∧ a3 (2 * i) = nI (i + 1) ∧ a1 (2 * i + 1) = nI 16 ∧ a3 (2 * i + 1) = nI (i + 1)) ∧ a4 0 = nI (2 * k) ∧ (∀ j, j < 6 → j ≠ 0 → a4 j = nI 0 ∧ a5 j = -1)
/-- the active zone while the store runs -/
def zl_A (k : Nat) (act : Int32) (a5 : Nat → Int32) : Prop := (k = 0 ∧ act = -1 ∧ a5 0 = -1) ∨ (0 < k ∧ act = 0)
/-- the table -/
def zl_T (B : Nat → Nat) (k : Nat) (a6 : Nat → Int32) : Prop := ∀ j, j < 16 → a6 j = zl_tab B k j
/-- no block is dirty -/
def zl_C (a8 : Nat → Int32) : Prop := ∀ j, j < 16 → a8 j = 0
/-- block b alone is dirty, its value is y -/
def zl_D (b : Nat) (y : Int32) (a7 a8 : Nat → Int32) : Prop := b < 16 ∧ a7 b = y ∧ a8 b = 1 ∧ ∀ j, j < 16 → j ≠ b → a8 j = 0
/-- what the law keeps of a block number -/
def zl_one (x6 p0 : Int32) : Prop := (x6 = 0 ∧ (p0 < 0 ∨ nI 16 ≤ p0)) ∨ (x6 = 1 ∧ ∃ a : Nat, a < 16 ∧ p0 = nI a)

theorem zl_m1 {n : Nat} (h : n < 2 ^ 31) : ¬ nI n = -1 := fun e => by
  have h1 := congrArg Int32.toInt e
  rw [nI_toInt h] at h1
  have h2 : ((-1 : Int32)).toInt = -1 := by decide
  omega
theorem zl_fill {s : Nat → Int32} {i m : Nat} {c : Int32} (hm : m = i) (h : ∀ j, j < i → s j = c) : ∀ j, j < i + 1 → upd s m c j = c := by
  intro j hj
  rw [hm]
  by_cases e : j = i
  · rw [e, pk_us]
  · rw [pk_un e]
    exact h j (by omega)
theorem zl_hit (B : Nat → Nat) (V : Nat → Int32) (j : Nat) : ∀ k, (zl_tab B k j = -1 ∧ zl_val B V k j = 0) ∨ ∃ i, i < k ∧ B i = j ∧ zl_tab B k j = nI (2 * i) ∧ zl_val B V k j = V i := by
  intro k
  induction k with
  | zero => exact Or.inl ⟨rfl, rfl⟩
  | succ k ih =>
    by_cases e : B k = j
    · exact Or.inr ⟨k, by omega, e, if_pos e, if_pos e⟩
    · have e1 : zl_tab B (k + 1) j = zl_tab B k j := if_neg e
      have e2 : zl_val B V (k + 1) j = zl_val B V k j := if_neg e
      rw [e1, e2]
      rcases ih with h | ⟨i, hi, h⟩
      · exact Or.inl h
      · exact Or.inr ⟨i, by omega, h⟩
theorem zl_T_put {B : Nat → Nat} {k : Nat} {s : Nat → Int32} (h : zl_T B k s) : zl_T B (k + 1) (upd s (B k) (nI (2 * k))) := by
  intro j hj
  by_cases e : B k = j
  · rw [← e, pk_us]
    exact (if_pos rfl).symm
  · rw [pk_un (fun z => e z.symm), h j hj]
    exact (if_neg e).symm
/-- a record and its mark are written: one group more -/
theorem zl_R_put {B : Nat → Nat} {V : Nat → Int32} {k : Nat} {gn gn' m2 : Int32} {a1 a2 a3 a4 a5 a4' a5' : Nat → Int32} (h : zl_R B V k gn a1 a2 a3 a4 a5) (hb : B k < 16) (hg : gn' = nI (k + 1)) (h4 : a4' 0 = nI (2 * (k + 1))) (h45 : ∀ j, j < 6 → j ≠ 0 → a4' j = nI 0 ∧ a5' j = -1) :
    zl_R B V (k + 1) gn' (upd (upd a1 (2 * k) (nI (B k))) (2 * k + 1) (nI 16)) (upd (upd a2 (2 * k) (V k)) (2 * k + 1) m2) (upd (upd a3 (2 * k) gn') (2 * k + 1) gn') a4' a5' := by
  obtain ⟨_, hr, _, _⟩ := h
  refine ⟨hg, fun i hi => ?_, h4, h45⟩
  by_cases e : i = k
  · rw [e, pk_un (show 2 * k ≠ 2 * k + 1 by omega), pk_un (show 2 * k ≠ 2 * k + 1 by omega), pk_un (show 2 * k ≠ 2 * k + 1 by omega), pk_us, pk_us, pk_us, pk_us, pk_us]
    exact ⟨hb, rfl, rfl, hg, rfl, hg⟩
  · rw [pk_un (show 2 * i ≠ 2 * k + 1 by omega), pk_un (show 2 * i ≠ 2 * k + 1 by omega), pk_un (show 2 * i ≠ 2 * k + 1 by omega), pk_un (show 2 * i ≠ 2 * k by omega), pk_un (show 2 * i ≠ 2 * k by omega), pk_un (show 2 * i ≠ 2 * k by omega), pk_un (show 2 * i + 1 ≠ 2 * k + 1 by omega), pk_un (show 2 * i + 1 ≠ 2 * k + 1 by omega), pk_un (show 2 * i + 1 ≠ 2 * k by omega), pk_un (show 2 * i + 1 ≠ 2 * k by omega)]
    exact hr i (by omega)
/-- a sum of which one place is put anew -/
theorem zl_sum_put (f : Nat → Int32) (b : Nat) (v : Int32) : ∀ n, bx_sum (fun j => if b = j then v else f j) n = bx_sum f n + (if b < n then v - f b else 0) := by
  intro n
  induction n with
  | zero => exact (by decide : (0 : Int32) = 0 + 0)
  | succ n ih =>
    show bx_sum (fun j => if b = j then v else f j) n + (if b = n then v else f n) = bx_sum f n + f n + _
    rw [ih]
    by_cases e : b = n
    · rw [if_neg (show ¬ b < n by omega), if_pos e, if_pos (show b < n + 1 by omega), e]
      grind
    · rw [if_neg e]
      by_cases e2 : b < n
      · rw [if_pos e2, if_pos (show b < n + 1 by omega)]
        grind
      · rw [if_neg e2, if_neg (show ¬ b < n + 1 by omega)]
        grind
theorem zl_sum0n : ∀ n, bx_sum (fun _ => 0) n = 0 := by
  intro n
  induction n with
  | zero => rfl
  | succ n ih =>
    show bx_sum (fun _ => 0) n + 0 = 0
    rw [ih]
    decide
theorem zl_S0 (B : Nat → Nat) (V : Nat → Int32) : bx_sum (zl_val B V 0) 16 = 0 := zl_sum0n 16
theorem zl_Ss (B : Nat → Nat) (V : Nat → Int32) (k : Nat) (hb : B k < 16) : bx_sum (zl_val B V (k + 1)) 16 = bx_sum (zl_val B V k) 16 + (V k - zl_val B V k (B k)) := by
  have h := zl_sum_put (zl_val B V k) (B k) (V k) 16
  rw [if_pos hb] at h
  exact h
theorem zl_S1 (B : Nat → Nat) (V : Nat → Int32) (hb : B 0 < 16) : bx_sum (zl_val B V 1) 16 = V 0 := by
  rw [zl_Ss B V 0 hb, zl_S0]
  show 0 + (V 0 - 0) = V 0
  grind
theorem zl_S2 (B : Nat → Nat) (V : Nat → Int32) (hb : B 0 < 16) (hb1 : B 1 < 16) : bx_sum (zl_val B V 2) 16 = if B 0 = B 1 then V 1 else V 0 + V 1 := by
  rw [zl_Ss B V 1 hb1, zl_S1 B V hb]
  show V 0 + (V 1 - (if B 0 = B 1 then V 0 else 0)) = _
  by_cases e : B 0 = B 1
  · rw [if_pos e, if_pos e]
    grind
  · rw [if_neg e, if_neg e]
    grind
/-- a block number is one of three -/
theorem zl_ge {x : Int32} (h : nI 16 ≤ x) : 15 < x ∧ ¬ x < 0 ∧ 16 ≤ x := by
  have h1 := Int32.le_iff_toInt_le.mp h
  rw [nI_toInt (by omega)] at h1
  have h2 : (15 : Int32).toInt = 15 := by decide
  have h3 : (0 : Int32).toInt = 0 := by decide
  refine ⟨Int32.lt_iff_toInt_lt.mpr (by omega), fun z => ?_, h⟩
  have h4 := Int32.lt_iff_toInt_lt.mp z
  omega
theorem zl_fork {x : Int32} {P : Int32 → Prop} (H : ∀ x6, zl_one x6 x → P x6) : (x < 0 → P 0) ∧ (¬ x < 0 → ((15 < x → P 0) ∧ (¬ 15 < x → P 1))) := by
  rcases pk_ix x (n := 16) (by omega) with h | h | ⟨j, hj, rfl⟩
  · exact br_t h (H 0 (Or.inl ⟨rfl, Or.inl h⟩))
  · exact br_f (zl_ge h).2.1 (br_t (zl_ge h).1 (H 0 (Or.inl ⟨rfl, Or.inr h⟩)))
  · exact br_f (nI_pos (by omega)) (br_f (nI_nlt (b := j) (a := 15) (by omega) (by omega)) (H 1 (Or.inr ⟨rfl, j, hj, rfl⟩)))
/-- zone and place of a record's number -/
theorem zl_z {i : Nat} (hi : i < 72) : nI i / 12 = nI (i / 12) := pk_div (d := 12) (by omega) (by omega) (by omega)
theorem zl_p {i : Nat} (hi : i < 72) : nI i - nI i / 12 * 12 = nI (i % 12) := pk_rem (d := 12) (by omega) (by omega) (by omega)
theorem zl_c1 {i : Nat} (hi : i < 72) : vp_in (nI i / 12) 6 := pk_in (i / 12) 6 (by omega) (zl_z hi)
theorem zl_c2 {B : Nat → Nat} {V : Nat → Int32} {k i : Nat} {gn : Int32} {a1 a2 a3 a4 a5 : Nat → Int32} (h : zl_R B V k gn a1 a2 a3 a4 a5) (hk : k ≤ 6) (hi : i < 2 * k) : ¬ a4 (nI i / 12).toNatClampNeg ≤ nI i - nI i / 12 * 12 := by
  rw [zl_p (by omega), zl_z (by omega), nI_clamp (by omega), show i / 12 = 0 by omega, h.2.2.1, nI_leI (by omega) (by omega)]
  omega
theorem zl_c3 {B : Nat → Nat} {V : Nat → Int32} {k i : Nat} {gn : Int32} {a1 a2 a3 a4 a5 : Nat → Int32} (h : zl_R B V k gn a1 a2 a3 a4 a5) (hk : k ≤ 6) (hi : 2 * k ≤ i) (h72 : i < 72) : a4 (nI i / 12).toNatClampNeg ≤ nI i - nI i / 12 * 12 := by
  rw [zl_p (by omega), zl_z (by omega), nI_clamp (by omega)]
  by_cases e : i / 12 = 0
  · rw [e, h.2.2.1, nI_leI (by omega) (by omega)]
    omega
  · rw [(h.2.2.2 (i / 12) (by omega) e).1]
    exact nI_le (by omega) (by omega)
end
section
section
variable {r g act gn on : Int32} {a1 a2 a3 a4 a5 a6 a7 a8 : Nat → Int32} {B : Nat → Nat} {V : Nat → Int32} {k : Nat}

theorem zl_init96 {post : St2 → Prop} {mc ms kc ks : Nat} (H : ∀ s6, (∀ j, j < 16 → s6 j = -1) → post (r, g, -1, gn, on, a1, a2, a3, a4, a5, s6, a7, a8)) : ∃ n, wX_init_96 post mc ms kc ks r g act gn on n 0 a1 a2 a3 a4 a5 a6 a7 a8 :=
  pk_loop (fun n i s => wX_init_96 post mc ms kc ks r g act gn on n (nI i) a1 a2 a3 a4 a5 s a7 a8) (fun i s => ∀ j, j < i → s j = -1) 16 0 a6 (by omega) (fun j hj => absurd hj (by omega))
    (fun n s h => pk_le 16 16 (fun _ => H s h) (fun z => absurd z (by omega)))
    (fun n i s hi h hw => pk_le 16 i (fun z => absurd z (by omega)) (fun _ => ⟨pk_in i 16 hi, nm_e (nm_r (nI_1 i) (hw _ (zl_fill (nI_clamp (by omega)) h)))⟩))
theorem zl_init75 {post : St2 → Prop} {mc ms kc ks : Nat} (H : ∀ s5 s6, (∀ j, j < 6 → s5 j = -1) → (∀ j, j < 16 → s6 j = -1) → post (r, g, -1, gn, on, a1, a2, a3, a4, s5, s6, a7, a8)) : ∃ n, wX_init_75 post mc ms kc ks r g act gn on n 0 a1 a2 a3 a4 a5 a6 a7 a8 :=
  pk_loop (fun n i s => wX_init_75 post mc ms kc ks r g act gn on n (nI i) a1 a2 a3 a4 s a6 a7 a8) (fun i s => ∀ j, j < i → s j = -1) 6 0 a5 (by omega) (fun j hj => absurd hj (by omega))
    (fun n s h => pk_le 6 6 (fun _ => zl_init96 (fun s6 h6 => H s s6 h h6)) (fun z => absurd z (by omega)))
    (fun n i s hi h hw => pk_le 6 i (fun z => absurd z (by omega)) (fun _ => ⟨pk_in i 6 hi, nm_e (nm_r (nI_1 i) (hw _ (zl_fill (nI_clamp (by omega)) h)))⟩))
theorem zl_init {post : St2 → Prop} (H : ∀ s5 s6, (∀ j, j < 6 → s5 j = -1) → (∀ j, j < 16 → s6 j = -1) → post (1, 0, -1, 0, 0, fun _ => 0, fun _ => 0, fun _ => 0, fun _ => 0, s5, s6, fun _ => 0, fun _ => 0)) : wpX_init post 8 276 (0, 0, 0, 0, 0) := by
  unfold wpX_init
  dsimp only
  exact ⟨by omega, by omega, by omega, by omega, by omega, by omega, by omega, by omega, by omega, by omega, by omega, by omega, by omega, by omega, by omega, by omega, zl_init75 H⟩

theorem zl_dc0 {post : Int32 → Prop} (hC : zl_C a8) (H : post 0) : wpX_dirtyCount post (r, g, act, gn, on, a1, a2, a3, a4, a5, a6, a7, a8) :=
  pk_loop (σ := Unit) (fun n i _ => wX_dirtyCount_4 post r g act gn on a1 a2 a3 a4 a5 a6 a7 a8 n 0 (nI i)) (fun _ _ => True) 16 0 () (by omega) trivial
    (fun n _ _ => pk_le 16 16 (fun _ => H) (fun z => absurd z (by omega)))
    (fun n i _ hi _ hw => pk_le 16 i (fun z => absurd z (by omega)) (fun _ => ⟨pk_in i 16 hi, br_t (by rw [nI_clamp (by omega)]; exact hC i hi) (nm_r (e' := 0) (by decide) (nm_r (nI_1 i) (hw () trivial)))⟩))
theorem zl_dc1 {post : Int32 → Prop} {b : Nat} {y : Int32} (hD : zl_D b y a7 a8) (H : post 1) : wpX_dirtyCount post (r, g, act, gn, on, a1, a2, a3, a4, a5, a6, a7, a8) := by
  obtain ⟨hb, _, h1, h0⟩ := hD
  refine pk_loop (σ := Int32) (fun n i s => wX_dirtyCount_4 post r g act gn on a1 a2 a3 a4 a5 a6 a7 a8 n s (nI i)) (fun i s => s = if i ≤ b then 0 else 1) 16 0 0 (by omega) (if_pos (by omega)).symm ?_ ?_
  · intro n s hs
    have hs' : s = 1 := hs.trans (if_neg (by omega))
    rw [hs']
    exact pk_le 16 16 (fun _ => H) (fun z => absurd z (by omega))
  · intro n i s hi hs hw
    refine pk_le 16 i (fun z => absurd z (by omega)) (fun _ => ⟨pk_in i 16 hi, ?_⟩)
    rw [nI_clamp (by omega)]
    by_cases e : i = b
    · have hs' : s = 0 := hs.trans (if_pos (by omega))
      rw [e, hs']
      refine br_f (by rw [h1]; decide) (nm_e (nm_r (nI_1 b) ?_))
      rw [← e]
      exact hw _ (if_neg (by omega)).symm
    · refine br_t (h0 i hi e) (nm_e (nm_r (nI_1 i) (hw _ ?_)))
      by_cases e2 : i ≤ b
      · rw [show s = 0 from hs.trans (if_pos e2)]
        exact (if_pos (by omega)).symm
      · rw [show s = 1 from hs.trans (if_neg e2)]
        exact (if_neg (by omega)).symm
theorem zl_drop {post : St2 → Prop} (H : ∀ s, zl_C s → post (r, g, act, gn, on, a1, a2, a3, a4, a5, a6, a7, s)) : wpX_dropCache post (r, g, act, gn, on, a1, a2, a3, a4, a5, a6, a7, a8) :=
  pk_loop (fun n i s => wX_dropCache_2 post r g act gn on n (nI i) a1 a2 a3 a4 a5 a6 a7 s) (fun i s => ∀ j, j < i → s j = 0) 16 0 a8 (by omega) (fun j hj => absurd hj (by omega))
    (fun n s h => pk_le 16 16 (fun _ => H s h) (fun z => absurd z (by omega)))
    (fun n i s hi h hw => pk_le 16 i (fun z => absurd z (by omega)) (fun _ => ⟨pk_in i 16 hi, nm_e (nm_r (nI_1 i) (hw _ (zl_fill (nI_clamp (by omega)) h)))⟩))
theorem zl_open {post : St2 → Prop} (h5 : a5 0 = -1) (H : post (r, g, 0, gn, on + 1, a1, a2, a3, upd a4 0 0, upd a5 0 (on + 1), a6, a7, a8)) : wpX_openZone post (r, g, act, gn, on, a1, a2, a3, a4, a5, a6, a7, a8) :=
  ⟨1, pk_le 6 0 (fun z => absurd z (by omega)) (fun _ => ⟨pk_in 0 6 (by omega), br_t h5 (nm_e ⟨pk_in 0 6 (by omega), nm_e ⟨pk_in 0 6 (by omega), nm_e H⟩⟩)⟩)⟩
theorem zl_poor {post : Int32 → Prop} (h5 : ∀ j, j < 6 → j ≠ 0 → a5 j = -1) (H : post (-1)) : wpX_poorest post (r, g, 0, gn, on, a1, a2, a3, a4, a5, a6, a7, a8) :=
  pk_loop (σ := Unit) (fun n i _ => wX_poorest_4 post r g 0 gn on a1 a2 a3 a4 a5 a6 a7 a8 n (-1) (nI i)) (fun _ _ => True) 6 0 () (by omega) trivial
    (fun n _ _ => pk_le 6 6 (fun _ => H) (fun z => absurd z (by omega)))
    (fun n i _ hi _ hw => pk_le 6 i (fun z => absurd z (by omega)) (fun _ => pk_eq i 0 (fun _ => nm_r (nI_1 i) (hw () trivial)) (fun z => ⟨pk_in i 6 hi, br_t (by rw [nI_clamp (by omega)]; exact h5 i hi z) (nm_r (nI_1 i) (hw () trivial))⟩)))
theorem zl_empties {post : Int32 → Prop} (h5 : ∀ j, j < 6 → j ≠ 0 → a5 j = -1) (H : ∀ c : Nat, 0 < c → c < 7 → post (nI c)) : wpX_emptyZones post (r, g, act, gn, on, a1, a2, a3, a4, a5, a6, a7, a8) := by
  refine pk_loop (σ := Int32) (fun n i s => wX_emptyZones_4 post r g act gn on a1 a2 a3 a4 a5 a6 a7 a8 n s (nI i)) (fun i s => ∃ c : Nat, c ≤ i ∧ i ≤ c + 1 ∧ s = nI c) 6 0 0 (by omega) ⟨0, by omega, by omega, rfl⟩ ?_ ?_
  · rintro n s ⟨c, h1, h2, rfl⟩
    exact pk_le 6 6 (fun _ => H c (by omega) (by omega)) (fun z => absurd z (by omega))
  · rintro n i s hi ⟨c, h1, h2, rfl⟩ hw
    refine pk_le 6 i (fun z => absurd z (by omega)) (fun _ => ⟨pk_in i 6 hi, ?_⟩)
    rw [nI_clamp (by omega)]
    refine br_c (fun z => nm_r (nI_1 c) (nm_r (nI_1 i) (hw _ ⟨c + 1, by omega, by omega, rfl⟩))) (fun z => nm_r (nI_add c 0) (nm_r (nI_1 i) (hw _ ⟨c, by omega, ?_, rfl⟩)))
    by_cases e : i = 0
    · omega
    · exact absurd (h5 i hi e) z
theorem zl_room0 {post : St2 → Prop} (h0 : a5 0 = -1) (h5 : ∀ j, j < 6 → j ≠ 0 → a5 j = -1) (H : post (r, g, 0, gn, on + 1, a1, a2, a3, upd a4 0 0, upd a5 0 (on + 1), a6, a7, a8)) : wpX_makeRoom post (r, g, -1, gn, on, a1, a2, a3, a4, a5, a6, a7, a8) := by
  have h5' : ∀ j, j < 6 → j ≠ 0 → upd a5 0 (on + 1) j = -1 := fun j hj h => by rw [pk_un h]; exact h5 j hj h
  unfold wpX_makeRoom
  refine br_t rfl ?_
  unfold wX_makeRoom_28
  refine zl_open h0 ?_
  exact ⟨1, pk_le 6 0 (fun z => absurd z (by omega)) (fun _ => zl_poor h5' (zl_empties h5' (fun c h1 h2 => pk_lt 0 c (fun _ => H) (fun z => absurd z (by omega)))))⟩
theorem zl_room1 {post : St2 → Prop} {m : Nat} (hm : m ≤ 5) (h4 : a4 0 = nI m) (H : post (r, g, 0, gn, on, a1, a2, a3, a4, a5, a6, a7, a8)) : wpX_makeRoom post (r, g, 0, gn, on, a1, a2, a3, a4, a5, a6, a7, a8) := by
  unfold wpX_makeRoom
  refine br_f (by decide) ⟨pk_in 0 6 (by omega), ?_⟩
  exact pk_lt 12 (m + 6 + 1) (fun z => absurd z (by omega)) (fun _ => H) rfl (by rw [sb_cl0, h4, ← nI_add, ← nI_add]; rfl)
theorem zl_room {post : St2 → Prop} (hR : zl_R B V k gn a1 a2 a3 a4 a5) (hk : k ≤ 1) (hA : zl_A k act a5) (H : ∀ on' a4' a5', zl_R B V k gn a1 a2 a3 a4' a5' → post (r, g, 0, gn, on', a1, a2, a3, a4', a5', a6, a7, a8)) : wpX_makeRoom post (r, g, act, gn, on, a1, a2, a3, a4, a5, a6, a7, a8) := by
  obtain ⟨h1, h2, h3, h4⟩ := hR
  rcases hA with ⟨rfl, rfl, h0⟩ | ⟨_, rfl⟩
  · exact zl_room0 h0 (fun j hj h => (h4 j hj h).2) (H _ _ _ ⟨h1, h2, rfl, fun j hj h => by rw [pk_un h, pk_un h]; exact h4 j hj h⟩)
  · exact zl_room1 (m := 2 * k) (by omega) h3 (H _ _ _ ⟨h1, h2, h3, h4⟩)
theorem zl_app {post : Int32 → St2 → Prop} {m : Nat} {p v : Int32} (hm : m < 12) (h4 : a4 0 = nI m) (H : post (nI m) (r, g, 0, gn, on, upd a1 m p, upd a2 m v, upd a3 m gn, upd a4 0 (nI (m + 1)), a5, a6, a7, a8)) : wpX_append post (r, g, 0, gn, on, a1, a2, a3, a4, a5, a6, a7, a8) p v := by
  unfold wpX_append
  have e1 : (12 : Int32) * 0 + a4 (0 : Int32).toNatClampNeg = nI m := by
    rw [sb_cl0, h4, show (12 : Int32) * 0 = nI 0 from rfl, nI_add, Nat.zero_add]
  have hc : (nI m).toNatClampNeg = m := nI_clamp (by omega)
  refine ⟨pk_in 0 6 (by omega), nm_r e1 ⟨pk_in m 72 (by omega), nm_r (by rw [hc]) ⟨pk_in m 72 (by omega), nm_r (by rw [hc]) ⟨pk_in m 72 (by omega), nm_r (by rw [hc]) ⟨pk_in 0 6 (by omega), pk_in 0 6 (by omega), nm_r (by rw [sb_cl0, h4, nI_1]) H⟩⟩⟩⟩⟩
theorem zl_flush0 {post : St2 → Prop} (hC : zl_C a8) (H : post (r, g, act, gn, on, a1, a2, a3, a4, a5, a6, a7, a8)) : wpX_flush post (r, g, act, gn, on, a1, a2, a3, a4, a5, a6, a7, a8) 3 := by
  unfold wpX_flush
  exact zl_dc0 hC (br_t rfl H)
theorem zl_fl33 {post : St2 → Prop} {b : Nat} {y : Int32} (hR : zl_R B V k gn a1 a2 a3 a4 a5) (hk : k ≤ 1) (hT : zl_T B k a6) (hD : zl_D b y a7 a8) (hB : B k = b) (hV : V k = y)
    (H : ∀ a1 a2 a3 a4 a6 a8, zl_R B V (k + 1) (nI (k + 1)) a1 a2 a3 a4 a5 → zl_T B (k + 1) a6 → zl_C a8 → post (r, g, 0, nI (k + 1), on, a1, a2, a3, a4, a5, a6, a7, a8)) :
    ∃ n, wX_flush_33 post 3 1 n 0 0 r g 0 (nI (k + 1)) on a1 a2 a3 a4 a5 a6 a7 a8 := by
  obtain ⟨hb, hy, h1, h0⟩ := hD
  have h4 := hR.2.2.1
  refine pk_loop (σ := Int32 × (Nat → Int32) × (Nat → Int32) × (Nat → Int32) × (Nat → Int32) × (Nat → Int32)) (fun n i s => wX_flush_33 post 3 1 n s.1 (nI i) r g 0 (nI (k + 1)) on s.2.1 s.2.2.1 s.2.2.2.1 s.2.2.2.2.1 a5 s.2.2.2.2.2 a7 a8)
    (fun i s => s = if i ≤ b then (0, a1, a2, a3, a4, a6) else (1, upd a1 (2 * k) (nI b), upd a2 (2 * k) y, upd a3 (2 * k) (nI (k + 1)), upd a4 0 (nI (2 * k + 1)), upd a6 b (nI (2 * k)))) 16 0 (0, a1, a2, a3, a4, a6) (by omega) (if_pos (by omega)).symm ?_ ?_
  · intro n s hs
    have hs' := hs.trans (if_neg (show ¬ 16 ≤ b by omega))
    rw [hs']
    refine pk_le 16 16 (fun _ => br_t rfl ?_) (fun z => absurd z (by omega))
    refine zl_app (m := 2 * k + 1) (by omega) (show upd a4 0 (nI (2 * k + 1)) 0 = nI (2 * k + 1) from pk_us) ?_
    refine zl_drop (fun a8' h8 => H _ _ _ _ _ _ ?_ ?_ h8)
    · rw [← hB, ← hV]
      refine zl_R_put hR (by omega) rfl ?_ (fun j hj h => ?_)
      · rw [pk_us, Nat.mul_succ]
      · rw [pk_un h]
        show upd a4 0 (nI (2 * k + 1)) j = nI 0 ∧ a5 j = -1
        rw [pk_un h]
        exact hR.2.2.2 j hj h
    · rw [← hB]
      exact zl_T_put hT
  · intro n i s hi hs hw
    refine pk_le 16 i (fun z => absurd z (by omega)) (fun _ => ⟨pk_in i 16 hi, ?_⟩)
    rw [nI_clamp (by omega)]
    by_cases e : i = b
    · have hs' := hs.trans (if_pos (show i ≤ b by omega))
      have hw' := hw _ (if_neg (show ¬ i + 1 ≤ b by omega)).symm
      rw [hs', e]
      rw [e] at hw'
      refine br_f (by rw [h1]; decide) (br_t (by decide) ?_)
      unfold wX_flush_62
      refine ⟨pk_in b 16 hb, ?_⟩
      rw [nI_clamp (by omega), hy]
      refine zl_app (m := 2 * k) (by omega) h4 ?_
      refine nm_e (br_t rfl ⟨pk_in b 16 hb, nm_e (nm_r (nI_1 b) ?_)⟩)
      exact hw'
    · refine br_t (h0 i hi e) (nm_r (nI_1 i) (hw _ ?_))
      by_cases e2 : i ≤ b
      · rw [hs, if_pos e2, if_pos (show i + 1 ≤ b by omega)]
      · rw [hs, if_neg e2, if_neg (show ¬ i + 1 ≤ b by omega)]
theorem zl_flush1 {post : St2 → Prop} {b : Nat} {y : Int32} (hR : zl_R B V k gn a1 a2 a3 a4 a5) (hk : k ≤ 1) (hA : zl_A k act a5) (hT : zl_T B k a6) (hD : zl_D b y a7 a8) (hB : B k = b) (hV : V k = y)
    (H : ∀ act gn on a1 a2 a3 a4 a5 a6 a8, zl_R B V (k + 1) gn a1 a2 a3 a4 a5 → zl_A (k + 1) act a5 → zl_T B (k + 1) a6 → zl_C a8 → post (r, g, act, gn, on, a1, a2, a3, a4, a5, a6, a7, a8)) :
    wpX_flush post (r, g, act, gn, on, a1, a2, a3, a4, a5, a6, a7, a8) 3 := by
  unfold wpX_flush
  refine zl_dc1 hD (br_f (by decide) (br_f (by decide) (zl_room hR hk hA (fun on' a4' a5' hR' => nm_r (by rw [hR'.1, nI_1]) ?_))))
  exact zl_fl33 hR' hk hT hD hB hV (fun b1 b2 b3 b4 b6 b8 q1 q2 q3 => H _ _ _ _ _ _ _ _ _ _ q1 (Or.inr ⟨by omega, rfl⟩) q2 q3)
end
end
section
section
variable {r g act gn on : Int32} {a1 a2 a3 a4 a5 a6 a7 a8 : Nat → Int32} {B : Nat → Nat} {V : Nat → Int32} {k : Nat}

theorem zl_isB0 {post : Int32 → Prop} {p : Int32} (h : p < 0 ∨ nI 16 ≤ p) (H : post 0) : wpX_isBlock post () p := by
  rcases h with h | h
  · exact br_t h H
  · exact br_f (zl_ge h).2.1 (br_t (zl_ge h).2.2 H)
theorem zl_isB1 {post : Int32 → Prop} {b : Nat} (h : b < 16) (H : post 1) : wpX_isBlock post () (nI b) :=
  br_f (nI_pos (by omega)) (pk_le 16 b (fun z => absurd z (by omega)) (fun _ => H))
theorem zl_write0 {post : Int32 → St2 → Prop} {p v : Int32} (h : p < 0 ∨ nI 16 ≤ p) (H : post (-2) (1, g, act, gn, on, a1, a2, a3, a4, a5, a6, a7, a8)) : wpX_write post (1, g, act, gn, on, a1, a2, a3, a4, a5, a6, a7, a8) p v := by
  unfold wpX_write
  exact br_f (by decide) (zl_isB0 h (br_t rfl H))
theorem zl_write1 {post : Int32 → St2 → Prop} {b : Nat} {v : Int32} (hb : b < 16) (hC : zl_C a8) (H : ∀ a7 a8, zl_D b v a7 a8 → post 0 (1, g, act, gn, on, a1, a2, a3, a4, a5, a6, a7, a8)) : wpX_write post (1, g, act, gn, on, a1, a2, a3, a4, a5, a6, a7, a8) (nI b) v := by
  have hc : (nI b).toNatClampNeg = b := nI_clamp (by omega)
  unfold wpX_write
  refine br_f (by decide) (zl_isB1 hb (br_f (by decide) ⟨pk_in b 16 hb, br_t (by rw [hc]; exact hC b hb) (zl_dc0 hC (br_f (by decide) ?_))⟩))
  unfold wX_write_52
  refine ⟨pk_in b 16 hb, nm_e ⟨pk_in b 16 hb, nm_e (H _ _ ?_)⟩⟩
  rw [hc]
  exact ⟨hb, pk_us, pk_us, fun j hj h => by rw [pk_un h]; exact hC j hj⟩
theorem zl_begin0 {post : Int32 → St2 → Prop} (hC : zl_C a8) (H : post 0 (1, 1, act, gn, on, a1, a2, a3, a4, a5, a6, a7, a8)) : wpX_begin post (1, 0, act, gn, on, a1, a2, a3, a4, a5, a6, a7, a8) := by
  unfold wpX_begin
  exact br_f (by decide) (br_t rfl (zl_flush0 hC H))
theorem zl_begin1 {post : Int32 → St2 → Prop} {b : Nat} {y : Int32} (hR : zl_R B V k gn a1 a2 a3 a4 a5) (hk : k ≤ 1) (hA : zl_A k act a5) (hT : zl_T B k a6) (hD : zl_D b y a7 a8) (hB : B k = b) (hV : V k = y)
    (H : ∀ act gn on a1 a2 a3 a4 a5 a6 a8, zl_R B V (k + 1) gn a1 a2 a3 a4 a5 → zl_A (k + 1) act a5 → zl_T B (k + 1) a6 → zl_C a8 → post 0 (1, 1, act, gn, on, a1, a2, a3, a4, a5, a6, a7, a8)) :
    wpX_begin post (1, 0, act, gn, on, a1, a2, a3, a4, a5, a6, a7, a8) := by
  unfold wpX_begin
  exact br_f (by decide) (br_t rfl (zl_flush1 hR hk hA hT hD hB hV H))
theorem zl_commit0 {post : Int32 → St2 → Prop} (hC : zl_C a8) (H : post 0 (1, 0, act, gn, on, a1, a2, a3, a4, a5, a6, a7, a8)) : wpX_commit post (1, 1, act, gn, on, a1, a2, a3, a4, a5, a6, a7, a8) := by
  unfold wpX_commit
  exact br_f (by decide) (br_f (by decide) (zl_dc0 hC (zl_flush0 hC H)))
theorem zl_commit1 {post : Int32 → St2 → Prop} {b : Nat} {y : Int32} (hR : zl_R B V k gn a1 a2 a3 a4 a5) (hk : k ≤ 1) (hA : zl_A k act a5) (hT : zl_T B k a6) (hD : zl_D b y a7 a8) (hB : B k = b) (hV : V k = y)
    (H : ∀ act gn on a1 a2 a3 a4 a5 a6 a8, zl_R B V (k + 1) gn a1 a2 a3 a4 a5 → zl_A (k + 1) act a5 → zl_T B (k + 1) a6 → zl_C a8 → post 1 (1, 0, act, gn, on, a1, a2, a3, a4, a5, a6, a7, a8)) :
    wpX_commit post (1, 1, act, gn, on, a1, a2, a3, a4, a5, a6, a7, a8) := by
  unfold wpX_commit
  exact br_f (by decide) (br_f (by decide) (zl_dc1 hD (zl_flush1 hR hk hA hT hD hB hV H)))
theorem zl_abort0 {post : Int32 → St2 → Prop} (hC : zl_C a8) (H : ∀ a8, zl_C a8 → post 0 (1, 0, act, gn, on, a1, a2, a3, a4, a5, a6, a7, a8)) : wpX_abort post (1, 1, act, gn, on, a1, a2, a3, a4, a5, a6, a7, a8) := by
  unfold wpX_abort
  exact br_f (by decide) (br_f (by decide) (zl_dc0 hC (zl_drop H)))
theorem zl_abort1 {post : Int32 → St2 → Prop} {b : Nat} {y : Int32} (hD : zl_D b y a7 a8) (H : ∀ a8, zl_C a8 → post 1 (1, 0, act, gn, on, a1, a2, a3, a4, a5, a6, a7, a8)) : wpX_abort post (1, 1, act, gn, on, a1, a2, a3, a4, a5, a6, a7, a8) := by
  unfold wpX_abort
  exact br_f (by decide) (br_f (by decide) (zl_dc1 hD (zl_drop H)))
theorem zl_fall6 {post : St2 → Prop} (H : ∀ a6, (∀ j, j < 16 → a6 j = -1) → post (0, 0, -1, gn, on, a1, a2, a3, a4, a5, a6, a7, a8)) : ∃ n, wX_fall_6 post r g act gn on n 0 a1 a2 a3 a4 a5 a6 a7 a8 :=
  pk_loop (fun n i s => wX_fall_6 post r g act gn on n (nI i) a1 a2 a3 a4 a5 s a7 a8) (fun i s => ∀ j, j < i → s j = -1) 16 0 a6 (by omega) (fun j hj => absurd hj (by omega))
    (fun n s h => pk_le 16 16 (fun _ => H s h) (fun z => absurd z (by omega)))
    (fun n i s hi h hw => pk_le 16 i (fun z => absurd z (by omega)) (fun _ => ⟨pk_in i 16 hi, nm_e (nm_r (nI_1 i) (hw _ (zl_fill (nI_clamp (by omega)) h)))⟩))
theorem zl_crash {post : Int32 → St2 → Prop} {b : Nat} {y : Int32} (hD : zl_D b y a7 a8) (H : ∀ a6 a8, zl_T B 0 a6 → zl_C a8 → post 1 (0, 0, -1, gn, on, a1, a2, a3, a4, a5, a6, a7, a8)) : wpX_crash post (1, g, act, gn, on, a1, a2, a3, a4, a5, a6, a7, a8) := by
  unfold wpX_crash
  refine br_f (by decide) (zl_dc1 hD ?_)
  unfold wpX_fall
  exact zl_drop (fun a8' h8 => zl_fall6 (fun a6' h6 => H a6' a8' h6 h8))
theorem zl_stored {post : Int32 → Prop} {j : Nat} (hR : zl_R B V k gn a1 a2 a3 a4 a5) (hk : k ≤ 2) (hT : zl_T B k a6) (hj : j < 16) (H : post (zl_val B V k j)) : wpX_stored post (r, g, act, gn, on, a1, a2, a3, a4, a5, a6, a7, a8) (nI j) := by
  unfold wpX_stored
  refine ⟨pk_in j 16 hj, ?_⟩
  rw [nI_clamp (by omega), hT j hj]
  rcases zl_hit B V j k with ⟨h1, h2⟩ | ⟨i, hi, _, h1, h2⟩
  · rw [h2] at H
    exact br_t h1 H
  · rw [h2, ← (hR.2.1 i hi).2.2.1] at H
    rw [h1]
    refine br_f (zl_m1 (by omega)) ⟨pk_in j 16 hj, pk_in (2 * i) 72 (by omega), ?_⟩
    rw [nI_clamp (by omega)]
    exact H
theorem zl_sum {post : Int32 → Prop} (hR : zl_R B V k gn a1 a2 a3 a4 a5) (hk : k ≤ 2) (hT : zl_T B k a6) (hC : zl_C a8) (H : post (bx_sum (zl_val B V k) 16)) : wpX_sum post (1, g, act, gn, on, a1, a2, a3, a4, a5, a6, a7, a8) := by
  unfold wpX_sum
  refine br_f (by decide) (pk_loop (σ := Unit) (fun n i _ => wX_sum_13 post 1 g act gn on a1 a2 a3 a4 a5 a6 a7 a8 n (bx_sum (zl_val B V k) i) (nI i)) (fun _ _ => True) 16 0 () (by omega) trivial ?_ ?_)
  · intro n _ _
    exact pk_le 16 16 (fun _ => H) (fun z => absurd z (by omega))
  · intro n i _ hi _ hw
    refine pk_le 16 i (fun z => absurd z (by omega)) (fun _ => ?_)
    unfold wpX_current
    refine ⟨pk_in i 16 hi, br_t (by rw [nI_clamp (by omega)]; exact hC i hi) (zl_stored hR hk hT hi (nm_e (nm_r (nI_1 i) (hw () trivial))))⟩
theorem zl_pend0 {post : Int32 → Prop} (hC : zl_C a8) (H : post 0) : wpX_pending post (1, g, act, gn, on, a1, a2, a3, a4, a5, a6, a7, a8) := by
  unfold wpX_pending
  refine br_f (by decide) (pk_loop (σ := Unit) (fun n i _ => wX_pending_13 post 1 g act gn on a1 a2 a3 a4 a5 a6 a7 a8 n 0 (nI i)) (fun _ _ => True) 16 0 () (by omega) trivial ?_ ?_)
  · intro n _ _
    exact pk_le 16 16 (fun _ => H) (fun z => absurd z (by omega))
  · intro n i _ hi _ hw
    exact pk_le 16 i (fun z => absurd z (by omega)) (fun _ => ⟨pk_in i 16 hi, br_t (by rw [nI_clamp (by omega)]; exact hC i hi) (nm_r (e' := 0) (by decide) (nm_r (nI_1 i) (hw () trivial)))⟩)
theorem zl_pend1 {post : Int32 → Prop} {b : Nat} {y : Int32} (hR : zl_R B V k gn a1 a2 a3 a4 a5) (hk : k ≤ 2) (hT : zl_T B k a6) (hD : zl_D b y a7 a8) (H : post (if y = zl_val B V k b then 0 else 1)) : wpX_pending post (1, g, act, gn, on, a1, a2, a3, a4, a5, a6, a7, a8) := by
  obtain ⟨hb, hy, h1, h0⟩ := hD
  unfold wpX_pending
  refine br_f (by decide) (pk_loop (σ := Int32) (fun n i s => wX_pending_13 post 1 g act gn on a1 a2 a3 a4 a5 a6 a7 a8 n s (nI i)) (fun i s => s = if i ≤ b then 0 else if y = zl_val B V k b then 0 else 1) 16 0 0 (by omega) (if_pos (by omega)).symm ?_ ?_)
  · intro n s hs
    rw [← hs.trans (if_neg (show ¬ 16 ≤ b by omega))] at H
    exact pk_le 16 16 (fun _ => H) (fun z => absurd z (by omega))
  · intro n i s hi hs hw
    refine pk_le 16 i (fun z => absurd z (by omega)) (fun _ => ⟨pk_in i 16 hi, ?_⟩)
    rw [nI_clamp (by omega)]
    by_cases e : i = b
    · have hs' := hs.trans (if_pos (show i ≤ b by omega))
      have hw' := hw _ (if_neg (show ¬ i + 1 ≤ b by omega)).symm
      rw [hs', e]
      rw [e] at hw'
      refine br_f (by rw [h1]; decide) ⟨pk_in b 16 hb, zl_stored hR hk hT hb ?_⟩
      rw [hy]
      refine br_c (fun z => nm_r (e' := 0) (by decide) (nm_r (nI_1 b) ?_)) (fun z => nm_r (e' := 1) (by decide) (nm_r (nI_1 b) ?_))
      · rw [if_pos z] at hw'
        exact hw'
      · rw [if_neg z] at hw'
        exact hw'
    · refine br_t (h0 i hi e) (nm_r (e' := s) (by grind) (nm_r (nI_1 i) (hw _ ?_)))
      by_cases e2 : i ≤ b
      · rw [hs, if_pos e2, if_pos (show i + 1 ≤ b by omega)]
      · rw [hs, if_neg e2, if_neg (show ¬ i + 1 ≤ b by omega)]
theorem zl_counts {post : Int32 → Prop} {m : Nat} (hR : zl_R B V k gn a1 a2 a3 a4 a5) (hk : k ≤ 2) (hm : m < k) (H : post 1) : wpX_counts post (r, g, act, gn, on, a1, a2, a3, a4, a5, a6, a7, a8) (nI (m + 1)) := by
  refine pk_loop (σ := Unit) (fun n i _ => wX_counts_2 post (nI (m + 1)) r g act gn on a1 a2 a3 a4 a5 a6 a7 a8 n (nI i)) (fun _ _ => True) (2 * m + 1) 0 () (by omega) trivial ?_ ?_
  · intro n _ _
    refine pk_le 72 (2 * m + 1) (fun z => absurd z (by omega)) (fun _ => ⟨by decide, by decide, zl_c1 (by omega), br_f (zl_c2 hR (by omega) (by omega)) ⟨pk_in (2 * m + 1) 72 (by omega), ?_⟩⟩)
    rw [nI_clamp (by omega)]
    exact br_t (hR.2.1 m hm).2.2.2.2.1 ⟨pk_in (2 * m + 1) 72 (by omega), br_t (hR.2.1 m hm).2.2.2.2.2 H⟩
  · intro n i _ hi _ hw
    refine pk_le 72 i (fun z => absurd z (by omega)) (fun _ => ⟨by decide, by decide, zl_c1 (by omega), br_f (zl_c2 hR (by omega) (by omega)) ⟨pk_in i 72 (by omega), ?_⟩⟩)
    rw [nI_clamp (by omega)]
    rcases Nat.mod_two_eq_zero_or_one i with h2 | h2
    · have q := hR.2.1 (i / 2) (by omega)
      rw [show 2 * (i / 2) = i by omega] at q
      exact pk_eq (B (i / 2)) 16 (fun z => absurd z (by omega)) (fun _ => nm_r (nI_1 i) (hw () trivial)) q.2.1 rfl (by omega)
    · have q := hR.2.1 (i / 2) (by omega)
      rw [show 2 * (i / 2) + 1 = i by omega] at q
      exact br_t q.2.2.2.2.1 ⟨pk_in i 72 (by omega), pk_eq (i / 2 + 1) (m + 1) (fun z => absurd z (by omega)) (fun _ => nm_r (nI_1 i) (hw () trivial)) q.2.2.2.2.2 rfl⟩
theorem zl_rec105 {post : St2 → Prop} (H : ∀ act, post (r, g, act, gn, on, a1, a2, a3, a4, a5, a6, a7, a8)) : ∃ n, wX_recover_105 post r g gn on a1 a2 a3 a4 a5 a6 a7 a8 n 0 (-1) := by
  refine pk_loop (σ := Int32) (fun n i s => wX_recover_105 post r g gn on a1 a2 a3 a4 a5 a6 a7 a8 n (nI i) s) (fun _ s => s = -1 ∨ ∃ z : Nat, z < 6 ∧ s = nI z) 6 0 (-1) (by omega) (Or.inl rfl) ?_ ?_
  · intro n s _
    exact pk_le 6 6 (fun _ => H s) (fun z => absurd z (by omega))
  · intro n i s hi hs hw
    refine pk_le 6 i (fun z => absurd z (by omega)) (fun _ => ⟨pk_in i 6 hi, br_c (fun _ => nm_r (nI_1 i) (hw _ hs)) (fun _ => br_c (fun _ => nm_r (nI_1 i) (hw _ (Or.inr ⟨i, hi, rfl⟩))) (fun q => ⟨pk_in i 6 hi, ?_, br_c (fun _ => nm_r (nI_1 i) (hw _ hs)) (fun _ => nm_r (nI_1 i) (hw _ (Or.inr ⟨i, hi, rfl⟩)))⟩))⟩)
    rcases hs with hs | ⟨z, hz, hs⟩
    · exact absurd hs q
    · exact pk_in z 6 hz hs
theorem zl_recover {post : St2 → Prop} (hR : zl_R B V k gn a1 a2 a3 a4 a5) (hk : k ≤ 2) (hT : zl_T B 0 a6) (H : ∀ act a6, zl_T B k a6 → post (r, g, act, gn, on, a1, a2, a3, a4, a5, a6, a7, a8)) : wpX_recover post (r, g, act, gn, on, a1, a2, a3, a4, a5, a6, a7, a8) := by
  refine pk_loop (fun n i s => wX_recover_2 post r g act gn on n (nI i) a1 a2 a3 a4 a5 s a7 a8) (fun i s => zl_T B (min ((i + 1) / 2) k) s) 72 0 a6 (by omega) (by rw [show min ((0 + 1) / 2) k = 0 by omega]; exact hT) ?_ ?_
  · intro n s hs
    rw [show min ((72 + 1) / 2) k = k by omega] at hs
    exact pk_le 72 72 (fun _ => zl_rec105 (fun act' => H act' s hs)) (fun z => absurd z (by omega))
  · intro n i s hi hs hw
    refine pk_le 72 i (fun z => absurd z (by omega)) (fun _ => ⟨by decide, by decide, zl_c1 hi, ?_⟩)
    by_cases e : 2 * k ≤ i
    · refine br_t (zl_c3 hR (by omega) e hi) (nm_r (nI_1 i) (hw _ ?_))
      rw [show min ((i + 1) / 2) k = k by omega] at hs
      rw [show min ((i + 1 + 1) / 2) k = k by omega]
      exact hs
    · refine br_f (zl_c2 hR (by omega) (by omega)) ⟨pk_in i 72 hi, ?_⟩
      rw [nI_clamp (by omega)]
      have hq : i / 2 < k := by omega
      have q := hR.2.1 (i / 2) hq
      rcases Nat.mod_two_eq_zero_or_one i with h2 | h2
      · have hi2 : 2 * (i / 2) = i := by omega
        rw [hi2] at q
        rw [show min ((i + 1) / 2) k = i / 2 by omega] at hs
        have hw' := hw (upd s (B (i / 2)) (nI i)) (by
          rw [show min ((i + 1 + 1) / 2) k = i / 2 + 1 by omega]
          have t := zl_T_put hs
          rw [hi2] at t
          exact t)
        refine pk_eq (B (i / 2)) 16 (fun z => absurd z (by omega)) (fun _ => ⟨pk_in i 72 hi, ?_⟩) q.2.1 rfl (by omega)
        rw [q.2.2.2.1]
        refine zl_counts hR hk hq (br_f (by decide) ⟨pk_in i 72 hi, nm_r q.2.1 ⟨pk_in (B (i / 2)) 16 (by omega), ?_⟩⟩)
        have hc : (nI (B (i / 2))).toNatClampNeg = B (i / 2) := nI_clamp (by omega)
        rw [hc]
        rw [hs (B (i / 2)) q.1]
        rcases zl_hit B V (B (i / 2)) (i / 2) with ⟨h1, _⟩ | ⟨t, ht, _, h1, _⟩
        · exact br_t h1 ⟨pk_in (B (i / 2)) 16 (by omega), nm_e (nm_r (nI_1 i) hw')⟩
        · rw [h1]
          refine br_f (zl_m1 (by omega)) ⟨pk_in (B (i / 2)) 16 (by omega), pk_in (2 * t) 72 (by omega), pk_in i 72 hi, ?_⟩
          rw [nI_clamp (show 2 * t < 2 ^ 31 by omega)]
          exact pk_le (i / 2 + 1) (t + 1) (fun z => absurd z (by omega)) (fun _ => ⟨pk_in (B (i / 2)) 16 (by omega), nm_e (nm_r (nI_1 i) hw')⟩) rfl (hR.2.1 t (by omega)).2.2.2.1
      · rw [show 2 * (i / 2) + 1 = i by omega] at q
        rw [show min ((i + 1) / 2) k = min ((i + 1 + 1) / 2) k by omega] at hs
        exact br_t q.2.2.2.2.1 (nm_r (nI_1 i) (hw _ hs))
theorem zl_mount {post : Int32 → St2 → Prop} (hR : zl_R B V k gn a1 a2 a3 a4 a5) (hk : k ≤ 2) (hT : zl_T B 0 a6) (H : ∀ act a6, zl_T B k a6 → post 0 (1, g, act, gn, on, a1, a2, a3, a4, a5, a6, a7, a8)) : wpX_mount post (0, g, act, gn, on, a1, a2, a3, a4, a5, a6, a7, a8) := by
  unfold wpX_mount
  exact br_t rfl (zl_recover hR hk hT H)
end
end
section
/-- the sum that the law expects -/
def zl_spec (x0 x1 x2 x3 x6 x7 x9 : Int32) : Int32 := if ¬ x6 = 0 ∧ ¬ x7 = 0 ∧ ¬ x9 = 0 ∧ x0 = x2 then x3 else (if x6 = 0 then 0 else x1) + (if ¬ x7 = 0 ∧ ¬ x9 = 0 then x3 else 0)
/-- the second block number: none, or b -/
def zl_two (x7 x2 : Int32) (b : Nat) : Prop := (x7 = 0 ∧ (x2 < 0 ∨ nI 16 ≤ x2)) ∨ (x7 = 1 ∧ b < 16 ∧ x2 = nI b)
section
variable {g act gn on : Int32} {a1 a2 a3 a4 a5 a6 a7 a8 : Nat → Int32} {B : Nat → Nat} {V : Nat → Int32} {k : Nat}
variable {post : Int32 → St0 → Prop} {mc ms kc ks : Nat} {x0 x1 x2 x3 x4 x6 x7 x9 z0 : Int32}

theorem zl_282 (hR : zl_R B V k gn a1 a2 a3 a4 a5) (hk : k ≤ 2) (hT : zl_T B k a6) (hC : zl_C a8) (hS : bx_sum (zl_val B V k) 16 = z0) (H : post 1 ()) : wL_lawOf_282 post mc ms z0 kc ks 1 g act gn on a1 a2 a3 a4 a5 a6 a7 a8 := by
  unfold wL_lawOf_282
  exact zl_sum hR hk hT hC (br_t hS H)
theorem zl_277 {x11 x12 : Int32} (hR : zl_R B V k gn a1 a2 a3 a4 a5) (hk : k ≤ 2) (hT : zl_T B k a6) (hC : zl_C a8) (hS : bx_sum (zl_val B V k) 16 = x11 + x12) (H : post 1 ()) : wL_lawOf_277 post mc ms x11 x12 kc ks 1 g act gn on a1 a2 a3 a4 a5 a6 a7 a8 := by
  unfold wL_lawOf_277
  exact zl_282 hR hk hT hC hS H
theorem zl_251 {x11 : Int32} (hR : zl_R B V k gn a1 a2 a3 a4 a5) (hk : k ≤ 2) (hT : zl_T B k a6) (hC : zl_C a8) (hS : bx_sum (zl_val B V k) 16 = if ¬ x6 = 0 ∧ ¬ x7 = 0 ∧ ¬ x9 = 0 ∧ x0 = x2 then x3 else x11 + z0) (H : post 1 ()) : wL_lawOf_251 post mc ms x0 x2 x3 x6 x7 x9 x11 z0 kc ks 1 g act gn on a1 a2 a3 a4 a5 a6 a7 a8 := by
  unfold wL_lawOf_251
  exact br_c (fun h6 => zl_277 hR hk hT hC (hS.trans (if_neg (fun t => t.1 h6))) H) (fun h6 =>
    br_c (fun h7 => zl_277 hR hk hT hC (hS.trans (if_neg (fun t => t.2.1 h7))) H) (fun h7 =>
    br_c (fun h9 => zl_277 hR hk hT hC (hS.trans (if_neg (fun t => t.2.2.1 h9))) H) (fun h9 =>
    br_c (fun h0 => zl_282 hR hk hT hC (hS.trans (if_pos ⟨h6, h7, h9, h0⟩)) H) (fun h0 => zl_277 hR hk hT hC (hS.trans (if_neg (fun t => h0 t.2.2.2))) H))))
theorem zl_234 {x11 : Int32} (hR : zl_R B V k gn a1 a2 a3 a4 a5) (hk : k ≤ 2) (hT : zl_T B k a6) (hC : zl_C a8) (hS : bx_sum (zl_val B V k) 16 = if ¬ x6 = 0 ∧ ¬ x7 = 0 ∧ ¬ x9 = 0 ∧ x0 = x2 then x3 else x11 + (if ¬ x7 = 0 ∧ ¬ x9 = 0 then x3 else 0)) (H : post 1 ()) : wL_lawOf_234 post mc ms x0 x2 x3 x6 x7 x9 x11 kc ks 1 g act gn on a1 a2 a3 a4 a5 a6 a7 a8 := by
  unfold wL_lawOf_234
  refine br_c (fun h7 => ?_) (fun h7 => br_c (fun h9 => ?_) (fun h9 => ?_))
  · unfold wL_lawOf_250
    refine zl_251 hR hk hT hC ?_ H
    rw [hS, if_neg (show ¬ (¬ x7 = 0 ∧ ¬ x9 = 0) from fun t => t.1 h7)]
  · unfold wL_lawOf_250
    refine zl_251 hR hk hT hC ?_ H
    rw [hS, if_neg (show ¬ (¬ x7 = 0 ∧ ¬ x9 = 0) from fun t => t.2 h9)]
  · refine zl_251 hR hk hT hC ?_ H
    rw [hS, if_pos (show ¬ x7 = 0 ∧ ¬ x9 = 0 from ⟨h7, h9⟩)]
theorem zl_185 (hR : zl_R B V k gn a1 a2 a3 a4 a5) (hk : k ≤ 2) (hC : zl_C a8) (hS : bx_sum (zl_val B V k) 16 = zl_spec x0 x1 x2 x3 x6 x7 x9) (H : post 1 ()) : wL_lawOf_185 post mc ms x0 x1 x2 x3 x6 x7 x9 z0 z0 kc ks 1 g act gn on a1 a2 a3 a4 a5 a6 a7 a8 := by
  unfold wL_lawOf_185
  refine br_t rfl ?_
  refine zl_write1 (b := 3) (by omega) hC (fun b7 b8 hD => br_t rfl ?_)
  refine zl_crash (B := B) hD (fun c6 c8 hT hC8 => br_t rfl ?_)
  refine zl_mount hR hk hT (fun act' d6 hT' => br_t rfl ?_)
  unfold zl_spec at hS
  refine br_c (fun h6 => zl_234 hR hk hT' hC8 ?_ H) (fun h6 => zl_234 hR hk hT' hC8 ?_ H)
  · rw [hS, if_pos h6]
  · rw [hS, if_neg h6]
theorem zl_165n (hR : zl_R B V k gn a1 a2 a3 a4 a5) (hk : k ≤ 2) (hC : zl_C a8) (hS : bx_sum (zl_val B V k) 16 = if x6 = 0 then 0 else x1) (H : post 1 ()) : wL_lawOf_165 post mc ms x0 x1 x2 x3 x6 0 x9 0 kc ks 1 1 act gn on a1 a2 a3 a4 a5 a6 a7 a8 := by
  have hS' : bx_sum (zl_val B V k) 16 = zl_spec x0 x1 x2 x3 x6 0 x9 := by
    unfold zl_spec
    rw [if_neg (fun t => t.2.1 rfl), if_neg (show ¬ (¬ (0 : Int32) = 0 ∧ ¬ x9 = 0) from fun t => t.1 rfl), hS, Int32.add_zero]
  unfold wL_lawOf_165
  exact br_c (fun _ => zl_abort0 hC (fun b8 h8 => zl_185 hR hk h8 hS' H)) (fun _ => zl_commit0 hC (zl_185 hR hk hC hS' H))
theorem zl_165y {b : Nat} (hR : zl_R B V k gn a1 a2 a3 a4 a5) (hk : k ≤ 1) (hA : zl_A k act a5) (hT : zl_T B k a6) (hD : zl_D b x3 a7 a8) (hB : B k = b) (hV : V k = x3)
    (hS0 : bx_sum (zl_val B V k) 16 = if x6 = 0 then 0 else x1) (hS1 : bx_sum (zl_val B V (k + 1)) 16 = if ¬ x6 = 0 ∧ x0 = x2 then x3 else (if x6 = 0 then 0 else x1) + x3) (H : post 1 ()) :
    wL_lawOf_165 post mc ms x0 x1 x2 x3 x6 1 x9 1 kc ks 1 1 act gn on a1 a2 a3 a4 a5 a6 a7 a8 := by
  have h1 : ¬ (1 : Int32) = 0 := by decide
  unfold wL_lawOf_165
  refine br_c (fun h9 => zl_abort1 hD (fun b8 h8 => zl_185 hR (by omega) h8 ?_ H)) (fun h9 => zl_commit1 hR hk hA hT hD hB hV (fun act' gn' on' b1 b2 b3 b4 b5 b6 b8 q1 q2 q3 q4 => zl_185 q1 (by omega) q4 ?_ H))
  · unfold zl_spec
    rw [if_neg (fun t => t.2.2.1 h9), if_neg (show ¬ (¬ (1 : Int32) = 0 ∧ ¬ x9 = 0) from fun t => t.2 h9), hS0, Int32.add_zero]
  · unfold zl_spec
    rw [if_pos (show ¬ (1 : Int32) = 0 ∧ ¬ x9 = 0 from ⟨h1, h9⟩), hS1]
    by_cases e : ¬ x6 = 0 ∧ x0 = x2
    · rw [if_pos e, if_pos ⟨e.1, h1, h9, e.2⟩]
    · rw [if_neg e, if_neg (show ¬ (¬ x6 = 0 ∧ ¬ (1 : Int32) = 0 ∧ ¬ x9 = 0 ∧ x0 = x2) from fun t => e ⟨t.1, t.2.2.2⟩)]
theorem zl_135 (h7 : x7 = 0 ∨ x7 = 1) (H : ∀ x9, wL_lawOf_165 post mc ms x0 x1 x2 x3 x6 x7 x9 x7 kc ks 1 1 act gn on a1 a2 a3 a4 a5 a6 a7 a8) : wL_lawOf_135 post mc ms x0 x1 x2 x3 x4 x6 x7 z0 z0 kc ks 1 1 act gn on a1 a2 a3 a4 a5 a6 a7 a8 := by
  have q : ∀ x9, wL_lawOf_153 post mc ms x0 x1 x2 x3 x6 x7 x9 kc ks 1 1 act gn on a1 a2 a3 a4 a5 a6 a7 a8 := by
    intro x9
    unfold wL_lawOf_153
    rcases h7 with rfl | rfl
    · exact br_t rfl (H x9)
    · exact br_f (by decide) (H x9)
  unfold wL_lawOf_135
  exact br_t rfl (br_c (fun _ => q 1) (fun _ => q 0))
theorem zl_112n (hR : zl_R B V k gn a1 a2 a3 a4 a5) (hk : k ≤ 2) (hC : zl_C a8) (hS : bx_sum (zl_val B V k) 16 = if x6 = 0 then 0 else x1) (H : post 1 ()) : wL_lawOf_112 post mc ms x0 x1 x2 x3 x4 x6 0 z0 kc ks 1 1 act gn on a1 a2 a3 a4 a5 a6 a7 a8 := by
  unfold wL_lawOf_112
  refine zl_pend0 hC (br_t rfl ?_)
  unfold wL_lawOf_134
  exact zl_135 (Or.inl rfl) (fun x9 => zl_165n hR hk hC hS H)
theorem zl_112y {b : Nat} (hR : zl_R B V k gn a1 a2 a3 a4 a5) (hk : k ≤ 1) (hA : zl_A k act a5) (hT : zl_T B k a6) (hD : zl_D b x3 a7 a8) (hB : B k = b) (hV : V k = x3)
    (hS0 : bx_sum (zl_val B V k) 16 = if x6 = 0 then 0 else x1) (hS1 : bx_sum (zl_val B V (k + 1)) 16 = if ¬ x6 = 0 ∧ x0 = x2 then x3 else (if x6 = 0 then 0 else x1) + x3) (hz : zl_val B V k b = z0) (H : post 1 ()) :
    wL_lawOf_112 post mc ms x0 x1 x2 x3 x4 x6 1 z0 kc ks 1 1 act gn on a1 a2 a3 a4 a5 a6 a7 a8 := by
  have q : ∀ x9, wL_lawOf_165 post mc ms x0 x1 x2 x3 x6 1 x9 1 kc ks 1 1 act gn on a1 a2 a3 a4 a5 a6 a7 a8 := fun x9 => zl_165y hR hk hA hT hD hB hV hS0 hS1 H
  unfold wL_lawOf_112
  refine zl_pend1 hR (by omega) hT hD (br_f (by decide) ?_)
  rw [hz]
  refine br_c (fun e => ?_) (fun e => ?_)
  · rw [if_pos e]
    unfold wL_lawOf_134
    exact zl_135 (Or.inr rfl) q
  · rw [if_neg e]
    exact zl_135 (Or.inr rfl) q
theorem zl_92n (hR : zl_R B V k gn a1 a2 a3 a4 a5) (hk : k ≤ 2) (hC : zl_C a8) (hS : bx_sum (zl_val B V k) 16 = if x6 = 0 then 0 else x1) (H : post 1 ()) : wL_lawOf_92 post mc ms x0 x1 x2 x3 x4 x6 0 z0 z0 kc ks 1 1 act gn on a1 a2 a3 a4 a5 a6 a7 a8 := by
  unfold wL_lawOf_92
  unfold wL_lawOf_111
  exact br_t rfl (br_c (fun _ => zl_112n hR hk hC hS H) (fun _ => br_c (fun _ => zl_112n hR hk hC hS H) (fun _ => zl_112n hR hk hC hS H)))
theorem zl_92y {b : Nat} (hR : zl_R B V k gn a1 a2 a3 a4 a5) (hk : k ≤ 1) (hA : zl_A k act a5) (hT : zl_T B k a6) (hD : zl_D b x3 a7 a8) (hB : B k = b) (hV : V k = x3)
    (hS0 : bx_sum (zl_val B V k) 16 = if x6 = 0 then 0 else x1) (hS1 : bx_sum (zl_val B V (k + 1)) 16 = if ¬ x6 = 0 ∧ x0 = x2 then x3 else (if x6 = 0 then 0 else x1) + x3) (hz : zl_val B V k b = if ¬ x6 = 0 ∧ x0 = x2 then x1 else 0) (H : post 1 ()) :
    wL_lawOf_92 post mc ms x0 x1 x2 x3 x4 x6 1 z0 z0 kc ks 1 1 act gn on a1 a2 a3 a4 a5 a6 a7 a8 := by
  unfold wL_lawOf_92
  unfold wL_lawOf_111
  exact br_t rfl (br_c (fun h6 => zl_112y hR hk hA hT hD hB hV hS0 hS1 (hz.trans (if_neg (fun t => t.1 h6))) H) (fun h6 =>
    br_c (fun h0 => zl_112y hR hk hA hT hD hB hV hS0 hS1 (hz.trans (if_pos ⟨h6, h0⟩)) H) (fun h0 => zl_112y hR hk hA hT hD hB hV hS0 hS1 (hz.trans (if_neg (fun t => h0 t.2))) H)))
/-- from the first write's answer on: begin leaves k groups -/
theorem zl_61 {b : Nat} (h7 : zl_two x7 x2 b) (hk : k ≤ 1) (hB : B k = b) (hV : V k = x3)
    (hS0 : bx_sum (zl_val B V k) 16 = if x6 = 0 then 0 else x1)
    (hS1 : b < 16 → x2 = nI b → bx_sum (zl_val B V (k + 1)) 16 = if ¬ x6 = 0 ∧ x0 = x2 then x3 else (if x6 = 0 then 0 else x1) + x3)
    (hz : x2 = nI b → b < 16 → zl_val B V k b = if ¬ x6 = 0 ∧ x0 = x2 then x1 else 0)
    (hb : ∀ post' : Int32 → St2 → Prop, (∀ act gn on a1 a2 a3 a4 a5 a6 a7 a8, zl_R B V k gn a1 a2 a3 a4 a5 → zl_A k act a5 → zl_T B k a6 → zl_C a8 → post' 0 (1, 1, act, gn, on, a1, a2, a3, a4, a5, a6, a7, a8)) → wpX_begin post' (1, 0, act, gn, on, a1, a2, a3, a4, a5, a6, a7, a8))
    (H : post 1 ()) : wL_lawOf_61 post mc ms x0 x1 x2 x3 x4 x6 x7 z0 z0 kc ks 1 0 act gn on a1 a2 a3 a4 a5 a6 a7 a8 := by
  unfold wL_lawOf_61
  refine br_t rfl (hb _ (fun act' gn' on' b1 b2 b3 b4 b5 b6 b7 b8 hR hA hT hC => br_t rfl ?_))
  rcases h7 with ⟨rfl, h2⟩ | ⟨rfl, hb16, h2⟩
  · exact zl_write0 h2 (br_t rfl (zl_92n hR (by omega) hC hS0 H))
  · have s1 := hS1 hb16 h2
    have s2 := hz h2 hb16
    rw [h2]
    rw [h2] at s1 s2
    exact zl_write1 hb16 hC (fun c7 c8 hD => br_f (by decide) (zl_92y hR hk hA hT hD hB hV hS0 s1 s2 H))
/-- the store as it is made -/
theorem zl_newR {s5 : Nat → Int32} (h5 : ∀ j, j < 6 → s5 j = -1) : zl_R B V 0 0 (fun _ => 0) (fun _ => 0) (fun _ => 0) (fun _ => 0) s5 :=
  ⟨rfl, fun i hi => absurd hi (by omega), rfl, fun j hj _ => ⟨rfl, h5 j hj⟩⟩
theorem zl_newA {s5 : Nat → Int32} (h5 : ∀ j, j < 6 → s5 j = -1) : zl_A 0 (-1) s5 := Or.inl ⟨rfl, rfl, h5 0 (by omega)⟩
theorem zl_41 {b : Nat} {s5 s6 : Nat → Int32} (h5 : ∀ j, j < 6 → s5 j = -1) (h6 : ∀ j, j < 16 → s6 j = -1) (h1 : zl_one x6 x0) (h7 : zl_two x7 x2 b) (H : post 1 ()) :
    wL_lawOf_41 post mc ms x0 x1 x2 x3 x4 x6 x7 kc ks 1 0 (-1) 0 0 (fun _ => 0) (fun _ => 0) (fun _ => 0) (fun _ => 0) s5 s6 (fun _ => 0) (fun _ => 0) := by
  have hC : zl_C (fun _ => 0) := fun _ _ => rfl
  unfold wL_lawOf_41
  rcases h1 with ⟨rfl, h0⟩ | ⟨rfl, a, ha, rfl⟩
  · refine zl_write0 h0 (br_t rfl ?_)
    refine zl_61 (k := 0) (B := fun _ => b) (V := fun _ => x3) h7 (by omega) rfl rfl ((zl_S0 _ _).trans (if_pos rfl).symm) (fun hb _ => ?_) (fun _ _ => (if_neg (fun t => t.1 rfl)).symm) (fun post' hp => ?_) H
    · rw [if_neg (fun t => t.1 rfl), if_pos rfl, Int32.zero_add]
      exact zl_S1 _ _ hb
    · exact zl_begin0 hC (hp _ _ _ _ _ _ _ _ _ _ _ (zl_newR h5) (zl_newA h5) h6 hC)
  · refine zl_write1 ha hC (fun b7 b8 hD => br_f (by decide) ?_)
    refine zl_61 (k := 1) (B := fun i => if i = 0 then a else b) (V := fun i => if i = 0 then x1 else x3) h7 (by omega) rfl rfl ?_ (fun hb e => ?_) (fun e hb => ?_) (fun post' hp => ?_) H
    · exact (zl_S1 _ _ ha).trans (if_neg (by decide)).symm
    · rw [if_neg (show ¬ (1 : Int32) = 0 by decide)]
      refine (zl_S2 _ _ ha hb).trans ?_
      show (if a = b then x3 else x1 + x3) = _
      by_cases c : a = b
      · rw [if_pos c, if_pos ⟨by decide, by rw [e, c]⟩]
      · rw [if_neg c, if_neg (fun t => c ((nI_eq (by omega) (by omega)).mp (t.2.trans e)))]
    · show (if a = b then x1 else 0) = _
      by_cases c : a = b
      · rw [if_pos c, if_pos ⟨by decide, by rw [e, c]⟩]
      · rw [if_neg c, if_neg (fun t => c ((nI_eq (by omega) (by omega)).mp (t.2.trans e)))]
    · exact zl_begin1 (k := 0) (b := a) (y := x1) (zl_newR h5) (by omega) (zl_newA h5) h6 hD rfl rfl (fun act' gn' on' c1 c2 c3 c4 c5 c6 c8 q1 q2 q3 q4 => hp _ _ _ _ _ _ _ _ _ _ _ q1 q2 q3 q4)
theorem zl_lawOf {p0 p1 p2 p3 p4 : Int32} (H : post 1 ()) : wpL_lawOf post 9 289 () p0 p1 p2 p3 p4 := by
  unfold wpL_lawOf
  refine ⟨by omega, by omega, 8, 276, by omega, by omega, zl_init (fun s5 s6 h5 h6 => ?_)⟩
  refine zl_fork (P := fun x6 => wL_lawOf_24 post 9 289 p0 p1 p2 p3 p4 x6 (1 + 8) (13 + 276) 1 0 (-1) 0 0 (fun _ => 0) (fun _ => 0) (fun _ => 0) (fun _ => 0) s5 s6 (fun _ => 0) (fun _ => 0)) (fun x6 h1 => ?_)
  unfold wL_lawOf_24
  refine zl_fork (P := fun x7 => wL_lawOf_41 post 9 289 p0 p1 p2 p3 p4 x6 x7 (1 + 8) (13 + 276) 1 0 (-1) 0 0 (fun _ => 0) (fun _ => 0) (fun _ => 0) (fun _ => 0) s5 s6 (fun _ => 0) (fun _ => 0)) (fun x7 h7 => ?_)
  rcases h7 with h | ⟨e7, b, hb, e2⟩
  · exact zl_41 (b := 0) h5 h6 h1 (Or.inl h) H
  · exact zl_41 (b := b) h5 h6 h1 (Or.inr ⟨e7, hb, e2⟩) H
end
theorem zl_cell {post : Int32 → Prop} {L : Nat} {xs : Nat → Int32} (hL : L ≤ 5) {i : Nat} (hi : i < 5) (H : ∀ v, post v) : wpL_cellAt post L xs () (nI i) :=
  pk_le L i (fun _ => H _) (fun z => ⟨pk_in i L (by omega), H _⟩)
theorem i_vc (xs : Nat → Int32) (L : Nat) (hL : L ≤ 5) : wpL_law (fun r => r = 1) L xs := by
  unfold wpL_law
  refine zl_cell (i := 0) hL (by omega) (fun v0 => zl_cell (i := 1) hL (by omega) (fun v1 => zl_cell (i := 2) hL (by omega) (fun v2 => zl_cell (i := 3) hL (by omega) (fun v3 => zl_cell (i := 4) hL (by omega) (fun v4 => ?_)))))
  exact ⟨9, 289, by omega, by omega, zl_lawOf rfl⟩
end
