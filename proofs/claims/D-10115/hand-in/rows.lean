section
/-! ===== the picture: a program that can be performed, a history of states, the chains of writers ===== -/
theorem td_b8 : ∀ m, m < 21 → (nI m).toInt8.toInt32 = nI m := by decide +kernel
theorem td_s16 : ∀ t, t < 201 → (nI t).toInt16.toInt32 = nI t := by decide +kernel
/-- one entry of the program can be performed -/
def td_E (op x y z : Int32) : Prop :=
  (op = 7 → ∃ n : Nat, n < 20 ∧ x = nI n) ∧
  (¬ op = 8 → ¬ op = 7 → ∃ n : Nat, n < 14 ∧ x = nI n) ∧
  (op = 6 → ∃ n : Nat, n < 20 ∧ y = nI n) ∧
  (¬ op = 8 → ¬ op = 7 → ¬ op = 6 → ¬ op = 0 → ∃ n : Nat, n < 14 ∧ y = nI n) ∧
  (¬ op = 8 → ¬ op = 7 → ¬ op = 6 → ¬ op = 0 → ¬ op = 4 → ¬ op = 5 → ∃ n : Nat, n < 14 ∧ z = nI n)
/-- all twenty entries can be performed (those behind the length are zeros: SET of variable 0) -/
def td_P (a1 a2 a3 a4 : Nat → Int32) : Prop := ∀ i, i < 20 → td_E (a1 i) (a2 i) (a3 i) (a4 i)
theorem td_E0 : td_E 0 0 0 0 := by
  have z : ∃ n : Nat, n < 14 ∧ (0 : Int32) = nI n := ⟨0, by omega, rfl⟩
  have z' : ∃ n : Nat, n < 20 ∧ (0 : Int32) = nI n := ⟨0, by omega, rfl⟩
  exact ⟨fun _ => z', fun _ _ => z, fun _ => z', fun _ _ _ _ => z, fun _ _ _ _ _ _ => z⟩
theorem td_P_put {a1 a2 a3 a4 : Nat → Int32} {k : Nat} {o x y z : Int32} (h : td_P a1 a2 a3 a4) (e : td_E o x y z) : td_P (upd a1 k o) (upd a2 k x) (upd a3 k y) (upd a4 k z) := by
  intro i hi
  by_cases c : i = k
  · rw [c, pk_us, pk_us, pk_us, pk_us]
    exact e
  · rw [pk_un c, pk_un c, pk_un c, pk_un c]
    exact h i hi
/-- a step from the state f to the state g: what it keeps of itself -/
def td_S (f g : Nat → Int32) (w o n : Int32) : Prop :=
  (w < 0 ∧ ∀ j, j < 14 → g j = f j) ∨ (∃ pl : Nat, pl < 14 ∧ w = nI pl ∧ o = f pl ∧ n = g pl ∧ ∀ j, j < 14 → j ≠ pl → g j = f j)
/-- the history H of T steps is what wrote, oldValue, newValue and saved hold -/
def td_H (H : Nat → Nat → Int32) (T : Nat) (a6 a7 a8 a14 : Nat → Int32) : Prop :=
  (∀ t, t < T → td_S (H t) (H (t + 1)) (a6 (t + 1)) (a7 (t + 1)) (a8 (t + 1))) ∧
  (∀ k, 50 * k ≤ T → ∀ j, j < 14 → a14 (14 * k + j) = H (50 * k) j)
/-- every step's earlier writer is earlier (of stale steps too) -/
def td_V (a9 : Nat → Int32) : Prop := ∀ t, 0 < t → ∃ s : Nat, s < t ∧ a9 t = nI s
/-- the last writers are steps -/
def td_W (T : Nat) (a12 : Nat → Int32) : Prop := ∀ j, j < 14 → ∃ s : Nat, s ≤ T ∧ a12 j = nI s
/-- the numbers are numbers, the first is 0 -/
def td_N (T : Nat) (a10 : Nat → Int32) : Prop := a10 0 = 0 ∧ ∀ t, t ≤ T → ∃ m : Nat, m ≤ 20 ∧ a10 t = nI m
/-- the whole of it at the present time p -/
def td_X (H : Nat → Nat → Int32) (p T : Nat) (a5 a6 a7 a8 a9 a10 a12 a14 : Nat → Int32) : Prop :=
  p ≤ T ∧ T ≤ 200 ∧ td_H H T a6 a7 a8 a14 ∧ (∀ j, j < 14 → a5 j = H p j) ∧ td_V a9 ∧ td_W T a12 ∧ td_N T a10
/-- the history with one more state -/
def td_add (H : Nat → Nat → Int32) (T : Nat) (f : Nat → Int32) : Nat → Nat → Int32 := fun t => if t = T + 1 then f else H t
theorem td_add_new (H : Nat → Nat → Int32) (T : Nat) (f : Nat → Int32) : td_add H T f (T + 1) = f := if_pos rfl
theorem td_add_old (H : Nat → Nat → Int32) {T t : Nat} (f : Nat → Int32) (h : t ≤ T) : td_add H T f t = H t := if_neg (by omega)
/-- the saved states behind one more step -/
theorem td_H_add {H : Nat → Nat → Int32} {T : Nat} {a6 a7 a8 a14 b6 b7 b8 b14 f : Nat → Int32} (h : td_H H T a6 a7 a8 a14)
    (e6 : ∀ t, t ≠ T + 1 → b6 t = a6 t) (e7 : ∀ t, t ≠ T + 1 → b7 t = a7 t) (e8 : ∀ t, t ≠ T + 1 → b8 t = a8 t)
    (s : td_S (H T) f (b6 (T + 1)) (b7 (T + 1)) (b8 (T + 1)))
    (c1 : ¬ (T + 1) % 50 = 0 → b14 = a14) (c2 : ∀ q, q < 14 * ((T + 1) / 50) → b14 q = a14 q) (c3 : (T + 1) % 50 = 0 → ∀ j, j < 14 → b14 (14 * ((T + 1) / 50) + j) = f j) :
    td_H (td_add H T f) (T + 1) b6 b7 b8 b14 := by
  refine ⟨fun t ht => ?_, fun k hk j hj => ?_⟩
  · by_cases c : t = T
    · subst c
      rw [td_add_new, td_add_old H f (Nat.le_refl t)]
      exact s
    · rw [td_add_old H f (show t ≤ T by omega), td_add_old H f (show t + 1 ≤ T by omega), e6 _ (by omega), e7 _ (by omega), e8 _ (by omega)]
      exact h.1 t (by omega)
  · by_cases c : 50 * k = T + 1
    · have k' : (T + 1) / 50 = k := by omega
      have m' : (T + 1) % 50 = 0 := by omega
      have := c3 m' j hj
      rw [k'] at this
      rw [this, c, td_add_new]
    · rw [td_add_old H f (show 50 * k ≤ T by omega), ← h.2 k (by omega) j hj]
      by_cases m : (T + 1) % 50 = 0
      · exact c2 _ (by omega)
      · rw [c1 m]
theorem td_N_add {T m : Nat} {a10 : Nat → Int32} (h : td_N T a10) (hm : m ≤ 20) : td_N (T + 1) (upd a10 (T + 1) (nI m)) := by
  refine ⟨?_, fun t ht => ?_⟩
  · rw [pk_un (by omega)]
    exact h.1
  · by_cases c : t = T + 1
    · rw [c, pk_us]
      exact ⟨m, hm, rfl⟩
    · rw [pk_un c]
      exact h.2 t (by omega)
/-- a step that writes nothing -/
theorem td_X_keep {H : Nat → Nat → Int32} {T m : Nat} {a5 a6 a7 a8 a9 a10 a12 a14 b14 : Nat → Int32} (h : td_X H T T a5 a6 a7 a8 a9 a10 a12 a14) (hT : T < 200) (hm : m ≤ 20)
    (c1 : ¬ (T + 1) % 50 = 0 → b14 = a14) (c2 : ∀ q, q < 14 * ((T + 1) / 50) → b14 q = a14 q) (c3 : (T + 1) % 50 = 0 → ∀ j, j < 14 → b14 (14 * ((T + 1) / 50) + j) = a5 j) :
    td_X (td_add H T a5) (T + 1) (T + 1) a5 (upd a6 (T + 1) (-1)) a7 a8 a9 (upd a10 (T + 1) (nI m)) a12 b14 := by
  obtain ⟨_, _, hH, h5, hV, hW, hN⟩ := h
  refine ⟨Nat.le_refl _, hT, td_H_add hH (fun t ht => pk_un ht) (fun _ _ => rfl) (fun _ _ => rfl) (Or.inl ⟨?_, h5⟩) c1 c2 c3, fun j _ => by rw [td_add_new], hV, fun j hj => ?_, td_N_add hN hm⟩
  · rw [pk_us]
    decide
  · obtain ⟨s, hs, e⟩ := hW j hj
    exact ⟨s, by omega, e⟩
/-- a step that writes v at the place pl -/
theorem td_X_put {H : Nat → Nat → Int32} {T m pl : Nat} {v w : Int32} {a5 a6 a7 a8 a9 a10 a12 a14 b14 : Nat → Int32} (h : td_X H T T a5 a6 a7 a8 a9 a10 a12 a14) (hT : T < 200) (hm : m ≤ 20) (hp : pl < 14)
    (c1 : ¬ (T + 1) % 50 = 0 → b14 = a14) (c2 : ∀ q, q < 14 * ((T + 1) / 50) → b14 q = a14 q) (c3 : (T + 1) % 50 = 0 → ∀ j, j < 14 → b14 (14 * ((T + 1) / 50) + j) = upd a5 pl v j) :
    td_X (td_add H T (upd a5 pl v)) (T + 1) (T + 1) (upd a5 pl v) (upd (upd a6 (T + 1) w) (T + 1) (nI pl)) (upd a7 (T + 1) (a5 pl)) (upd a8 (T + 1) v) (upd a9 (T + 1) (a12 pl)) (upd a10 (T + 1) (nI m)) (upd a12 pl (nI (T + 1))) b14 := by
  obtain ⟨_, _, hH, h5, hV, hW, hN⟩ := h
  refine ⟨Nat.le_refl _, hT, td_H_add hH (fun t ht => by rw [pk_un ht, pk_un ht]) (fun t ht => pk_un ht) (fun t ht => pk_un ht) (Or.inr ⟨pl, hp, pk_us, ?_, ?_, fun j hj hn => ?_⟩) c1 c2 c3, fun j _ => by rw [td_add_new], fun t ht => ?_, fun j hj => ?_, td_N_add hN hm⟩
  · rw [pk_us]
    exact h5 pl hp
  · rw [pk_us, pk_us]
  · rw [pk_un hn]
    exact h5 j hj
  · by_cases c : t = T + 1
    · obtain ⟨s, hs, e⟩ := hW pl hp
      rw [c, pk_us]
      exact ⟨s, by omega, e⟩
    · rw [pk_un c]
      exact hV t ht
  · by_cases c : j = pl
    · rw [c, pk_us]
      exact ⟨T + 1, Nat.le_refl _, rfl⟩
    · rw [pk_un c]
      obtain ⟨s, hs, e⟩ := hW j hj
      exact ⟨s, by omega, e⟩
/-- at the beginning -/
theorem td_X_0 {a5 a6 a7 a8 a9 a10 a12 a14 : Nat → Int32} (hV : td_V a9) (h12 : ∀ j, j < 14 → a12 j = 0) (h10 : a10 0 = 0) (h14 : ∀ j, j < 14 → a14 (14 * (0 / 50) + j) = a5 j) :
    td_X (fun _ => a5) 0 0 a5 a6 a7 a8 a9 a10 a12 a14 := by
  refine ⟨Nat.le_refl _, by omega, ⟨fun t ht => absurd ht (by omega), fun k hk j hj => ?_⟩, fun _ _ => rfl, hV, fun j hj => ⟨0, Nat.le_refl _, h12 j hj⟩, h10, fun t ht => ⟨0, by omega, ?_⟩⟩
  · have e : k = 0 := by omega
    subst e
    exact h14 j hj
  · have e : t = 0 := by omega
    rw [e]
    exact h10
/-- the state at another time -/
theorem td_X_at {H : Nat → Nat → Int32} {p q T : Nat} {a5 b5 a6 a7 a8 a9 a10 a12 a14 : Nat → Int32} (h : td_X H p T a5 a6 a7 a8 a9 a10 a12 a14) (hq : q ≤ T) (hb : ∀ j, j < 14 → b5 j = H q j) :
    td_X H q T b5 a6 a7 a8 a9 a10 a12 a14 :=
  ⟨hq, h.2.1, h.2.2.1, hb, h.2.2.2.2⟩
/-! ===== the chain of writers ===== -/
/-- the first of a chain that isn't later than p -/
def td_g (a9 : Nat → Int32) (p : Nat) : Nat → Nat → Nat
  | 0, s => s
  | n + 1, s => if s ≤ p then s else td_g a9 p n (a9 s).toNatClampNeg
theorem td_g_t (a9 : Nat → Int32) {p n s : Nat} (h : s ≤ p) : td_g a9 p (n + 1) s = s := if_pos h
theorem td_g_f (a9 : Nat → Int32) {p n s : Nat} (h : p < s) : td_g a9 p (n + 1) s = td_g a9 p n (a9 s).toNatClampNeg := if_neg (by omega)
theorem td_g_le {a9 : Nat → Int32} (hV : td_V a9) (p : Nat) : ∀ n s, s < 201 → s < n → td_g a9 p n s ≤ p
  | 0, s, _, h => absurd h (by omega)
  | n + 1, s, h2, h => by
    rcases Nat.lt_or_ge p s with c | c
    · obtain ⟨s', hs, e⟩ := hV s (by omega)
      rw [td_g_f a9 c, e, nI_clamp (by omega)]
      exact td_g_le hV p n s' (by omega) (by omega)
    · rw [td_g_t a9 c]
      exact c
/-- asked again at the step found it answers the same -/
theorem td_g_again {a9 : Nat → Int32} (hV : td_V a9) (p : Nat) : ∀ n s, s < 201 → s < n → td_g a9 (td_g a9 p n s) n s = td_g a9 p n s
  | 0, s, _, h => absurd h (by omega)
  | n + 1, s, h2, h => by
    rcases Nat.lt_or_ge p s with c | c
    · obtain ⟨s', hs, e⟩ := hV s (by omega)
      have i := td_g_again hV p n s' (by omega) (by omega)
      have j := td_g_le hV p n s' (by omega) (by omega)
      rw [td_g_f a9 c, e, nI_clamp (by omega), td_g_f a9 (show td_g a9 p n s' < s by omega), e, nI_clamp (by omega)]
      exact i
    · rw [td_g_t a9 c, td_g_t a9 (Nat.le_refl s)]
/-! ===== the sum ===== -/
def td_f (a : Nat → Int32) : Nat → Int32
  | 0 => 0
  | n + 1 => 31 * td_f a n + a n
theorem td_f_eq {a b : Nat → Int32} : ∀ n, (∀ j, j < n → a j = b j) → td_f a n = td_f b n
  | 0, _ => rfl
  | n + 1, h => by
    show 31 * td_f a n + a n = 31 * td_f b n + b n
    rw [td_f_eq n (fun j hj => h j (by omega)), h n (by omega)]
end
section
/-! ===== moving through time ===== -/
theorem td_14 (k i : Nat) : (14 : Int32) * nI k + nI i = nI (14 * k + i) := by
  rw [show (14 : Int32) = nI 14 from rfl, pk_mul, nI_add]
theorem td_gap {post : Int32 → Prop} {u : St1} {x y : Int32} (K : ∀ r, post r) : wpX_gap post u x y :=
  br_c (fun _ => K _) (fun _ => K _)
theorem td_undo {post : St1 → Prop} {l iv tt : Int32} {p : Nat} {a1 a2 a3 a4 a5 a6 a7 a8 a9 a10 a11 a12 a13 a14 f g : Nat → Int32} (hp : p < 200) (hS : td_S f g (a6 (p + 1)) (a7 (p + 1)) (a8 (p + 1))) (h5 : ∀ j, j < 14 → a5 j = g j)
    (K : ∀ b5 : Nat → Int32, (∀ j, j < 14 → b5 j = f j) → post (l, iv, nI p, tt, a1, a2, a3, a4, b5, a6, a7, a8, a9, a10, a11, a12, a13, a14)) : wpX_undo post (l, iv, nI (p + 1), tt, a1, a2, a3, a4, a5, a6, a7, a8, a9, a10, a11, a12, a13, a14) := by
  have c : (nI (p + 1)).toNatClampNeg = p + 1 := nI_clamp (by omega)
  refine ⟨pk_in (p + 1) 201 (by omega), ?_⟩
  rcases hS with ⟨hw, he⟩ | ⟨pl, hpl, hw, ho, hn, he⟩
  · exact br_t (by rw [c]; exact hw) (nm_r (nI_pred p) (K a5 (fun j hj => by rw [h5 j hj, he j hj])))
  · refine br_f (by rw [c, hw]; exact nI_pos (by omega)) ⟨pk_in (p + 1) 201 (by omega), pk_in (p + 1) 201 (by omega), by rw [c, hw]; exact vp_in_nI hpl (by decide), ?_⟩
    refine nm_r (e' := upd a5 pl (a7 (p + 1))) (by rw [c, hw, nI_clamp (by omega)]) (nm_r (nI_pred p) (K _ (fun j hj => ?_)))
    by_cases e : j = pl
    · rw [e, pk_us, ho]
    · rw [pk_un e, h5 j hj, he j hj e]
theorem td_redo {post : St1 → Prop} {l iv tt : Int32} {p : Nat} {a1 a2 a3 a4 a5 a6 a7 a8 a9 a10 a11 a12 a13 a14 f g : Nat → Int32} (hp : p < 200) (hS : td_S f g (a6 (p + 1)) (a7 (p + 1)) (a8 (p + 1))) (h5 : ∀ j, j < 14 → a5 j = f j)
    (K : ∀ b5 : Nat → Int32, (∀ j, j < 14 → b5 j = g j) → post (l, iv, nI (p + 1), tt, a1, a2, a3, a4, b5, a6, a7, a8, a9, a10, a11, a12, a13, a14)) : wpX_redo post (l, iv, nI p, tt, a1, a2, a3, a4, a5, a6, a7, a8, a9, a10, a11, a12, a13, a14) := by
  have c : (nI (p + 1)).toNatClampNeg = p + 1 := nI_clamp (by omega)
  refine nm_r (nI_1 p) ⟨pk_in (p + 1) 201 (by omega), ?_⟩
  rcases hS with ⟨hw, he⟩ | ⟨pl, hpl, hw, ho, hn, he⟩
  · exact br_t (by rw [c]; exact hw) (K a5 (fun j hj => by rw [h5 j hj, he j hj]))
  · refine br_f (by rw [c, hw]; exact nI_pos (by omega)) ⟨pk_in (p + 1) 201 (by omega), pk_in (p + 1) 201 (by omega), by rw [c, hw]; exact vp_in_nI hpl (by decide), ?_⟩
    refine nm_r (e' := upd a5 pl (a8 (p + 1))) (by rw [c, hw, nI_clamp (by omega)]) (K _ (fun j hj => ?_))
    by_cases e : j = pl
    · rw [e, pk_us, hn]
    · rw [pk_un e, h5 j hj, he j hj e]
theorem td_load {post : St1 → Prop} {l iv pr tt : Int32} {k : Nat} {a1 a2 a3 a4 a5 a6 a7 a8 a9 a10 a11 a12 a13 a14 : Nat → Int32} (hk : k ≤ 4)
    (K : ∀ b5 : Nat → Int32, (∀ j, j < 14 → b5 j = a14 (14 * k + j)) → post (l, iv, nI (k * 50), tt, a1, a2, a3, a4, b5, a6, a7, a8, a9, a10, a11, a12, a13, a14)) : wpX_load post (l, iv, pr, tt, a1, a2, a3, a4, a5, a6, a7, a8, a9, a10, a11, a12, a13, a14) (nI k) := by
  refine pk_loop (fun n i s => wX_load_2 post (nI k) l iv pr tt n (nI i) a1 a2 a3 a4 s a6 a7 a8 a9 a10 a11 a12 a13 a14) (fun i s => ∀ j, j < i → s j = a14 (14 * k + j)) 14 0 a5 (by omega) (fun j hj => absurd hj (by omega)) ?_ ?_
  · intro n s h
    exact pk_le 14 14 (fun _ => nm_r (pk_mul k 50) (K s h)) (fun z => absurd z (by omega))
  · intro n i s hi h hw
    refine pk_le 14 i (fun z => absurd z (by omega)) (fun _ => ⟨pk_in (14 * k + i) 70 (by omega) (td_14 k i), pk_in i 14 hi, ?_⟩)
    refine nm_r (e' := upd s i (a14 (14 * k + i))) (by rw [td_14, nI_clamp (by omega), nI_clamp (by omega)]) (nm_r (nI_1 i) (hw _ (fun j hj => ?_)))
    by_cases e : j = i
    · rw [e, pk_us]
    · rw [pk_un e]
      exact h j (by omega)
theorem td_63 {post : St1 → Prop} {l iv : Int32} {t T : Nat} {a1 a2 a3 a4 a6 a7 a8 a9 a10 a11 a12 a13 a14 : Nat → Int32} {H : Nat → Nat → Int32} (ht : t ≤ T) (hT : T ≤ 200) (hH : td_H H T a6 a7 a8 a14)
    (K : ∀ b5 : Nat → Int32, (∀ j, j < 14 → b5 j = H t j) → post (l, iv, nI t, nI T, a1, a2, a3, a4, b5, a6, a7, a8, a9, a10, a11, a12, a13, a14)) :
    ∀ (d p : Nat) (a5 : Nat → Int32), p + d = t → (∀ j, j < 14 → a5 j = H p j) → wX_travel_63 post (nI t) (d + 1) l iv (nI p) (nI T) a1 a2 a3 a4 a5 a6 a7 a8 a9 a10 a11 a12 a13 a14
  | 0, p, a5, e, h5 => by
    have e' : p = t := by omega
    subst e'
    exact pk_le p p (fun _ => K a5 h5) (fun z => absurd z (by omega))
  | d + 1, p, a5, e, h5 =>
    pk_le t p (fun z => absurd z (by omega)) (fun _ => td_redo (by omega) (hH.1 p (by omega)) h5 (fun b5 hb => td_63 ht hT hH K d (p + 1) b5 (by omega) hb))
theorem td_48 {post : St1 → Prop} {l iv : Int32} {t T : Nat} {a1 a2 a3 a4 a6 a7 a8 a9 a10 a11 a12 a13 a14 : Nat → Int32} {H : Nat → Nat → Int32} (ht : t ≤ T) (hT : T ≤ 200) (hH : td_H H T a6 a7 a8 a14)
    (K : ∀ b5 : Nat → Int32, (∀ j, j < 14 → b5 j = H t j) → post (l, iv, nI t, nI T, a1, a2, a3, a4, b5, a6, a7, a8, a9, a10, a11, a12, a13, a14)) :
    ∀ (d p : Nat) (a5 : Nat → Int32), p ≤ t + d → p ≤ T → (∀ j, j < 14 → a5 j = H p j) → wX_travel_48 post (nI t) (d + 1) l iv (nI p) (nI T) a1 a2 a3 a4 a5 a6 a7 a8 a9 a10 a11 a12 a13 a14
  | 0, p, a5, e, hp, h5 => pk_le p t (fun _ => ⟨t - p + 1, td_63 ht hT hH K (t - p) p a5 (by omega) h5⟩) (fun z => absurd z (by omega))
  | d + 1, 0, a5, e, hp, h5 => pk_le 0 t (fun _ => ⟨t - 0 + 1, td_63 ht hT hH K (t - 0) 0 a5 (by omega) h5⟩) (fun z => absurd z (by omega))
  | d + 1, p + 1, a5, e, hp, h5 =>
    pk_le (p + 1) t (fun _ => ⟨t - (p + 1) + 1, td_63 ht hT hH K (t - (p + 1)) (p + 1) a5 (by omega) h5⟩) (fun _ => td_undo (by omega) (hH.1 p (by omega)) h5 (fun b5 hb => td_48 ht hT hH K d p b5 (by omega) (by omega) hb))
theorem td_22 {post : St1 → Prop} {l iv : Int32} {p t T k : Nat} {a1 a2 a3 a4 a5 a6 a7 a8 a9 a10 a11 a12 a13 a14 : Nat → Int32} {H : Nat → Nat → Int32} (hp : p ≤ T) (ht : t ≤ T) (hT : T ≤ 200) (hk : k * 50 ≤ T) (hH : td_H H T a6 a7 a8 a14) (h5 : ∀ j, j < 14 → a5 j = H p j)
    (K : ∀ b5 : Nat → Int32, (∀ j, j < 14 → b5 j = H t j) → post (l, iv, nI t, nI T, a1, a2, a3, a4, b5, a6, a7, a8, a9, a10, a11, a12, a13, a14)) : wX_travel_22 post (nI t) (nI k) l iv (nI p) (nI T) a1 a2 a3 a4 a5 a6 a7 a8 a9 a10 a11 a12 a13 a14 :=
  td_gap (fun _ => td_gap (fun _ => br_c (fun _ => ⟨p + 1, td_48 ht hT hH K p p a5 (by omega) hp h5⟩)
    (fun _ => td_load (by omega) (fun b5 hb => ⟨k * 50 + 1, td_48 ht hT hH K (k * 50) (k * 50) b5 (by omega) hk (fun j hj => by rw [hb j hj, hH.2 k (by omega) j hj, Nat.mul_comm])⟩))))
theorem td_travel {post : St1 → Prop} {l iv : Int32} {p t T : Nat} {a1 a2 a3 a4 a5 a6 a7 a8 a9 a10 a11 a12 a13 a14 : Nat → Int32} {H : Nat → Nat → Int32} (hp : p ≤ T) (ht : t ≤ T) (hT : T ≤ 200) (hH : td_H H T a6 a7 a8 a14) (h5 : ∀ j, j < 14 → a5 j = H p j)
    (K : ∀ b5 : Nat → Int32, (∀ j, j < 14 → b5 j = H t j) → post (l, iv, nI t, nI T, a1, a2, a3, a4, b5, a6, a7, a8, a9, a10, a11, a12, a13, a14)) : wpX_travel post (l, iv, nI p, nI T, a1, a2, a3, a4, a5, a6, a7, a8, a9, a10, a11, a12, a13, a14) (nI t) := by
  have e : (nI t + 25) / 50 = nI ((t + 25) / 50) := by
    rw [show (25 : Int32) = nI 25 from rfl, nI_add]
    exact pk_div (d := 50) (by omega) (by omega) (by omega)
  refine ⟨by decide, nm_r e ?_⟩
  have hd := Nat.div_add_mod (t + 25) 50
  have hm := Nat.mod_lt (t + 25) (show 0 < 50 by omega)
  generalize (t + 25) / 50 = q at hd ⊢
  refine pk_le (q * 50) T (fun z => td_22 hp ht hT z hH h5 K) (fun z => ?_) (pk_mul q 50)
  cases q with
  | zero => exact absurd z (by omega)
  | succ q => exact nm_r (pk_m1 q) (td_22 hp ht hT (by omega) hH h5 K)
end
section
/-! ===== execution ===== -/
theorem td_n44 {post : St1 → Prop} {l iv pr tt : Int32} {k : Nat} {a1 a2 a3 a4 a5 a6 a7 a8 a9 a10 a11 a12 a13 a14 : Nat → Int32} (hk : k ≤ 4)
    (K : ∀ b14 : Nat → Int32, (∀ q, q < 14 * k → b14 q = a14 q) → (∀ j, j < 14 → b14 (14 * k + j) = a5 j) → post (l, iv, pr, tt, a1, a2, a3, a4, a5, a6, a7, a8, a9, a10, a11, a12, a13, b14)) : ∃ n, wX_noteTime_44 post (nI k) l iv pr tt n 0 a1 a2 a3 a4 a5 a6 a7 a8 a9 a10 a11 a12 a13 a14 := by
  refine pk_loop (fun n i s => wX_noteTime_44 post (nI k) l iv pr tt n (nI i) a1 a2 a3 a4 a5 a6 a7 a8 a9 a10 a11 a12 a13 s) (fun i s => (∀ q, q < 14 * k → s q = a14 q) ∧ ∀ j, j < i → s (14 * k + j) = a5 j) 14 0 a14 (by omega) ⟨fun _ _ => rfl, fun j hj => absurd hj (by omega)⟩ ?_ ?_
  · intro n s h
    exact pk_le 14 14 (fun _ => K s h.1 h.2) (fun z => absurd z (by omega))
  · intro n i s hi h hw
    refine pk_le 14 i (fun z => absurd z (by omega)) (fun _ => ⟨pk_in i 14 hi, pk_in (14 * k + i) 70 (by omega) (td_14 k i), ?_⟩)
    refine nm_r (e' := upd s (14 * k + i) (a5 i)) (by rw [td_14, nI_clamp (by omega), nI_clamp (by omega)]) (nm_r (nI_1 i) (hw _ ⟨fun q hq => ?_, fun j hj => ?_⟩))
    · rw [pk_un (by omega)]
      exact h.1 q hq
    · by_cases e : j = i
      · rw [e, pk_us]
      · rw [pk_un (by omega)]
        exact h.2 j (by omega)
theorem td_noteTime {post : St1 → Prop} {l iv pr tt : Int32} {T m : Nat} {a1 a2 a3 a4 a5 a6 a7 a8 a9 a10 a11 a12 a13 a14 : Nat → Int32} (hT : T ≤ 200) (hm : m ≤ 20)
    (K : ∀ b11 b13 b14 : Nat → Int32, (¬ T % 50 = 0 → b14 = a14) → (∀ q, q < 14 * (T / 50) → b14 q = a14 q) → (T % 50 = 0 → ∀ j, j < 14 → b14 (14 * (T / 50) + j) = a5 j) → post (l, iv, pr, tt, a1, a2, a3, a4, a5, a6, a7, a8, a9, upd a10 T (nI m), b11, a12, b13, b14)) :
    wpX_noteTime post (l, iv, pr, tt, a1, a2, a3, a4, a5, a6, a7, a8, a9, a10, a11, a12, a13, a14) (nI T) (nI m) := by
  refine ⟨pk_in T 201 (by omega), nm_r (e' := upd a10 T (nI m)) (by rw [nI_clamp (by omega), td_b8 m (by omega)]) ⟨pk_in m 21 (by omega), pk_in T 201 (by omega), fun b11 _ => ⟨pk_in m 21 (by omega), fun b13 _ => ⟨by decide, ?_⟩⟩⟩⟩
  refine pk_eq (T % 50) 0 (fun z => ⟨by decide, nm_r (e' := nI (T / 50)) (pk_div (d := 50) (by omega) (by omega) (by omega)) (td_n44 (by omega) (fun b14 h1 h2 => K b11 b13 b14 (fun z' => absurd z z') h1 (fun _ => h2)))⟩)
    (fun z => K b11 b13 a14 (fun _ => rfl) (fun _ _ => rfl) (fun z' => absurd z' z)) (pk_rem (d := 50) (by omega) (by omega) (by omega))
theorem td_store {post : St1 → Prop} {l iv pr v : Int32} {T pl : Nat} {a1 a2 a3 a4 a5 a6 a7 a8 a9 a10 a11 a12 a13 a14 : Nat → Int32} (hT : T ≤ 200) (hp : pl < 14) (h12 : ∃ s : Nat, s ≤ 200 ∧ a12 pl = nI s)
    (K : post (l, iv, pr, nI T, a1, a2, a3, a4, upd a5 pl v, upd a6 T (nI pl), upd a7 T (a5 pl), upd a8 T v, upd a9 T (a12 pl), a10, a11, upd a12 pl (nI T), a13, a14)) : wpX_store post (l, iv, pr, nI T, a1, a2, a3, a4, a5, a6, a7, a8, a9, a10, a11, a12, a13, a14) (nI pl) v := by
  have c : (nI T).toNatClampNeg = T := nI_clamp (by omega)
  have d : (nI pl).toNatClampNeg = pl := nI_clamp (by omega)
  have i : vp_in (nI T) 201 := vp_in_nI (by omega) (by decide)
  have j : vp_in (nI pl) 14 := vp_in_nI hp (by decide)
  have e : vp_nar .short (a12 pl) = a12 pl := by
    obtain ⟨s, hs, e⟩ := h12
    rw [e, vp_nar_short, td_s16 s (by omega)]
  exact ⟨i, nm_r (e' := upd a6 T (nI pl)) (by rw [c, td_b8 pl (by omega)]) ⟨j, i, nm_r (e' := upd a7 T (a5 pl)) (by rw [c, d]) ⟨i, nm_r (e' := upd a8 T v) (by rw [c]) ⟨j, i, nm_r (e' := upd a9 T (a12 pl)) (by rw [c, d, e]) ⟨j, nm_r (e' := upd a12 pl (nI T)) (by rw [d, td_s16 T (by omega)]) ⟨j, nm_r (e' := upd a5 pl v) (by rw [d]) K⟩⟩⟩⟩⟩⟩
theorem td_compute {post : St1 → Prop} {l iv pr o p q : Int32} {T pl : Nat} {a1 a2 a3 a4 a5 a6 a7 a8 a9 a10 a11 a12 a13 a14 : Nat → Int32} (hT : T ≤ 200) (hp : pl < 14) (h12 : ∃ s : Nat, s ≤ 200 ∧ a12 pl = nI s)
    (K : ∀ v, post (l, iv, pr, nI T, a1, a2, a3, a4, upd a5 pl v, upd a6 T (nI pl), upd a7 T (a5 pl), upd a8 T v, upd a9 T (a12 pl), a10, a11, upd a12 pl (nI T), a13, a14)) : wpX_compute post (l, iv, pr, nI T, a1, a2, a3, a4, a5, a6, a7, a8, a9, a10, a11, a12, a13, a14) o (nI pl) p q :=
  br_c (fun _ => td_store hT hp h12 (K _)) (fun _ => br_c (fun _ => td_store hT hp h12 (K _)) (fun _ => td_store hT hp h12 (K _)))
theorem td_perform {post : Int32 → St1 → Prop} {l iv pr : Int32} {T i : Nat} {a1 a2 a3 a4 a5 a6 a7 a8 a9 a10 a11 a12 a13 a14 : Nat → Int32} (hT : T ≤ 200) (hi : i < 20) (hP : td_P a1 a2 a3 a4) (h12 : ∀ j, j < 14 → ∃ s : Nat, s ≤ 200 ∧ a12 j = nI s)
    (K1 : ∀ m, m ≤ 20 → post (nI m) (l, iv, pr, nI T, a1, a2, a3, a4, a5, a6, a7, a8, a9, a10, a11, a12, a13, a14))
    (K2 : ∀ pl v m, pl < 14 → m ≤ 20 → post (nI m) (l, iv, pr, nI T, a1, a2, a3, a4, upd a5 pl v, upd a6 T (nI pl), upd a7 T (a5 pl), upd a8 T v, upd a9 T (a12 pl), a10, a11, upd a12 pl (nI T), a13, a14)) :
    wpX_perform post (l, iv, pr, nI T, a1, a2, a3, a4, a5, a6, a7, a8, a9, a10, a11, a12, a13, a14) (nI i) := by
  have c : (nI i).toNatClampNeg = i := nI_clamp (by omega)
  have w : vp_in (nI i) 20 := vp_in_nI hi (by decide)
  have k2 : ∀ pl v, pl < 14 → post (nI i + 1) (l, iv, pr, nI T, a1, a2, a3, a4, upd a5 pl v, upd a6 T (nI pl), upd a7 T (a5 pl), upd a8 T v, upd a9 T (a12 pl), a10, a11, upd a12 pl (nI T), a13, a14) := fun pl v hp => by
    rw [nI_1]
    exact K2 pl v (i + 1) hp (by omega)
  obtain ⟨e1, e2, e3, e4, e5⟩ := hP i hi
  refine ⟨w, nm_r (e' := a1 i) (by rw [c]) ⟨w, nm_r (e' := a2 i) (by rw [c]) ⟨w, nm_r (e' := a3 i) (by rw [c]) ?_⟩⟩⟩
  refine br_c (fun _ => K1 i (by omega)) (fun n8 => br_c (fun o7 => ?_) (fun n7 => br_c (fun o6 => ?_) (fun n6 => ?_)))
  · obtain ⟨n, hn, e⟩ := e1 o7
    rw [e]
    exact K1 n (by omega)
  · obtain ⟨x, hx, ex⟩ := e2 n8 n7
    obtain ⟨y, hy, ey⟩ := e3 o6
    rw [ex, ey]
    exact ⟨vp_in_nI hx (by decide), br_c (fun _ => by rw [nI_1]; exact K1 (i + 1) (by omega)) (fun _ => K1 y (by omega))⟩
  · obtain ⟨x, hx, ex⟩ := e2 n8 n7
    rw [ex]
    refine br_c (fun o0 => td_store hT hx (h12 x hx) (k2 x _ hx)) (fun n0 => ?_)
    obtain ⟨y, hy, ey⟩ := e4 n8 n7 n6 n0
    rw [ey, nI_clamp (show y < 2 ^ 31 by omega)]
    obtain ⟨g, hg, eg⟩ := pk_andE (a5 y) (m := 7) 3 (by decide)
    have hg : g < 8 := hg
    have e6 : (6 : Int32) + nI g = nI (6 + g) := nI_add 6 g
    rw [eg, e6]
    refine br_c (fun _ => ⟨vp_in_nI hy (by decide), vp_in_nI (by omega) (by decide), td_store hT hx (h12 x hx) (k2 x _ hx)⟩) (fun n4 => br_c (fun _ => ⟨vp_in_nI hy (by decide), vp_in_nI hx (by decide), td_store hT (by omega) (h12 _ (by omega)) (k2 _ _ (by omega))⟩) (fun n5 => ?_))
    obtain ⟨z, hz, ez⟩ := e5 n8 n7 n6 n0 n4 n5
    exact ⟨vp_in_nI hy (by decide), w, by rw [c, ez]; exact vp_in_nI hz (by decide), td_compute hT hx (h12 x hx) (fun v => k2 x v hx)⟩
theorem td_156 {post : St1 → Prop} {l iv pr : Int32} {T : Nat} {a1 a2 a3 a4 a5 a6 a7 a8 a9 a10 a11 a12 a13 a14 : Nat → Int32} {H : Nat → Nat → Int32} (hX : td_X H T T a5 a6 a7 a8 a9 a10 a12 a14)
    (K : ∀ b5 : Nat → Int32, td_X H 0 T b5 a6 a7 a8 a9 a10 a12 a14 → post (l, iv, nI 0, nI T, a1, a2, a3, a4, b5, a6, a7, a8, a9, a10, a11, a12, a13, a14)) : wX_execute_156 post l iv pr (nI T) a1 a2 a3 a4 a5 a6 a7 a8 a9 a10 a11 a12 a13 a14 :=
  td_travel (t := 0) hX.1 (Nat.zero_le T) hX.2.1 hX.2.2.1 hX.2.2.2.1 (fun b5 hb => K b5 (td_X_at hX (Nat.zero_le T) hb))
theorem td_137 {post : St1 → Prop} {J : Int32 → Int32 → Int32 → Int32 → Int32 → Int32 → (Nat → Int32) → (Nat → Int32) → (Nat → Int32) → (Nat → Int32) → (Nat → Int32) → (Nat → Int32) → (Nat → Int32) → (Nat → Int32) → (Nat → Int32) → (Nat → Int32) → (Nat → Int32) → (Nat → Int32) → (Nat → Int32) → (Nat → Int32) → Prop} {l iv pr z : Int32} {T i : Nat} {a1 a2 a3 a4 a5 a6 a7 a8 a9 a10 a11 a12 a13 a14 : Nat → Int32} {H : Nat → Nat → Int32} (hX : td_X H T T a5 a6 a7 a8 a9 a10 a12 a14) (hT : T < 200) (hi : i < 20) (hP : td_P a1 a2 a3 a4)
    (K : ∀ (G : Nat → Nat → Int32) (m : Nat) (b5 b6 b7 b8 b9 b10 b11 b12 b13 b14 : Nat → Int32), m ≤ 20 → td_X G (T + 1) (T + 1) b5 b6 b7 b8 b9 b10 b12 b14 → J (nI m) z l iv pr (nI (T + 1)) a1 a2 a3 a4 b5 b6 b7 b8 b9 b10 b11 b12 b13 b14) :
    wX_execute_137 post J (nI i) z l iv pr (nI (T + 1)) a1 a2 a3 a4 a5 (upd a6 (T + 1) (-1)) a7 a8 a9 a10 a11 a12 a13 a14 :=
  td_perform (by omega) hi hP (fun j hj => (hX.2.2.2.2.2.1 j hj).elim fun s h => ⟨s, by omega, h.2⟩)
    (fun m hm => td_noteTime (by omega) hm (fun b11 b13 b14 c1 c2 c3 => K _ m _ _ _ _ _ _ _ _ _ _ hm (td_X_keep hX hT hm c1 c2 c3)))
    (fun pl v m hp hm => td_noteTime (by omega) hm (fun b11 b13 b14 c1 c2 c3 => K _ m _ _ _ _ _ _ _ _ _ _ hm (td_X_put hX hT hm hp c1 c2 c3)))
theorem td_79 {post : St1 → Prop} {iv pr : Int32} {len : Nat} {a1 a2 a3 a4 : Nat → Int32} (hl : len ≤ 20) (hP : td_P a1 a2 a3 a4)
    (K : ∀ (H : Nat → Nat → Int32) (T : Nat) (a5 a6 a7 a8 a9 a10 a11 a12 a13 a14 : Nat → Int32), td_X H 0 T a5 a6 a7 a8 a9 a10 a12 a14 → post (nI len, iv, nI 0, nI T, a1, a2, a3, a4, a5, a6, a7, a8, a9, a10, a11, a12, a13, a14)) :
    ∀ (d T m : Nat) (z : Int32) (H : Nat → Nat → Int32) (a5 a6 a7 a8 a9 a10 a11 a12 a13 a14 : Nat → Int32), T + d = 200 → m ≤ 20 → td_X H T T a5 a6 a7 a8 a9 a10 a12 a14 → wX_execute_79 post (d + 1) (nI m) z (nI len) iv pr (nI T) a1 a2 a3 a4 a5 a6 a7 a8 a9 a10 a11 a12 a13 a14
  | 0, T, m, z, H, a5, a6, a7, a8, a9, a10, a11, a12, a13, a14, e, hm, hX => by
    have X := td_156 (post := post) (l := nI len) (iv := iv) (pr := pr) (a1 := a1) (a2 := a2) (a3 := a3) (a4 := a4) (a11 := a11) (a13 := a13) hX (fun b5 hb => K H T b5 _ _ _ _ _ _ _ _ _ hb)
    exact br_c (fun _ => X) (fun _ => br_c (fun _ => X) (fun _ => pk_le 200 T (fun _ => X) (fun z => absurd z (by omega))))
  | d + 1, T, m, z, H, a5, a6, a7, a8, a9, a10, a11, a12, a13, a14, e, hm, hX => by
    have X := td_156 (post := post) (l := nI len) (iv := iv) (pr := pr) (a1 := a1) (a2 := a2) (a3 := a3) (a4 := a4) (a11 := a11) (a13 := a13) hX (fun b5 hb => K H T b5 _ _ _ _ _ _ _ _ _ hb)
    refine br_c (fun _ => X) (fun _ => pk_le len m (fun _ => X) (fun g => pk_le 200 T (fun z => absurd z (by omega)) (fun _ => nm_r (nI_1 T) ⟨pk_in (T + 1) 201 (by omega), nm_r (e' := upd a6 (T + 1) (-1)) (by rw [nI_clamp (by omega)]) ⟨pk_in m 20 (by omega), ?_⟩⟩)))
    exact br_c (fun _ => td_137 hX (by omega) (by omega) hP (fun G m' b5 b6 b7 b8 b9 b10 b11 b12 b13 b14 hm' hG => td_79 hl hP K d (T + 1) m' _ G b5 b6 b7 b8 b9 b10 b11 b12 b13 b14 (by omega) hm' hG))
      (fun _ => td_137 hX (by omega) (by omega) hP (fun G m' b5 b6 b7 b8 b9 b10 b11 b12 b13 b14 hm' hG => td_79 hl hP K d (T + 1) m' _ G b5 b6 b7 b8 b9 b10 b11 b12 b13 b14 (by omega) hm' hG))
theorem td_30 {post : St1 → Prop} {iv pr tt : Int32} {len : Nat} {a1 a2 a3 a4 a5 a6 a7 a8 a9 a10 a11 a12 a13 a14 : Nat → Int32} (hl : len ≤ 20) (hP : td_P a1 a2 a3 a4) (hV : td_V a9) (h12 : ∀ j, j < 14 → a12 j = 0)
    (K : ∀ (H : Nat → Nat → Int32) (T : Nat) (a5 a6 a7 a8 a9 a10 a11 a12 a13 a14 : Nat → Int32), td_X H 0 T a5 a6 a7 a8 a9 a10 a12 a14 → post (nI len, iv, nI 0, nI T, a1, a2, a3, a4, a5, a6, a7, a8, a9, a10, a11, a12, a13, a14)) :
    ∃ n, wX_execute_30 post (nI len) iv pr tt n 0 a1 a2 a3 a4 a5 a6 a7 a8 a9 a10 a11 a12 a13 a14 := by
  refine pk_loop (fun n i s => wX_execute_30 post (nI len) iv pr tt n (nI i) a1 a2 a3 a4 a5 a6 a7 a8 a9 a10 a11 a12 s a14) (fun _ _ => True) 21 0 a13 (by omega) trivial ?_ ?_
  · intro n s _
    refine pk_le 21 21 (fun _ => nm_e (td_noteTime (T := 0) (m := 0) (by omega) (by omega) (fun b11 b13 b14 c1 c2 c3 => ⟨201, td_79 hl hP K 200 0 0 _ _ _ _ _ _ _ _ _ _ _ _ (by omega) (by omega) (td_X_0 hV h12 ?_ (c3 rfl))⟩))) (fun z => absurd z (by omega))
    rw [pk_us, nI_0]
  · intro n i s hi _ hw
    exact pk_le 21 i (fun z => absurd z (by omega)) (fun _ => ⟨pk_in i 21 hi, nm_e (nm_r (nI_1 i) (hw _ trivial))⟩)
theorem td_execute {post : St1 → Prop} {iv pr tt : Int32} {len : Nat} {a1 a2 a3 a4 a5 a6 a7 a8 a9 a10 a11 a12 a13 a14 : Nat → Int32} (hl : len ≤ 20) (hP : td_P a1 a2 a3 a4) (hV : td_V a9)
    (K : ∀ (H : Nat → Nat → Int32) (T : Nat) (a5 a6 a7 a8 a9 a10 a11 a12 a13 a14 : Nat → Int32), td_X H 0 T a5 a6 a7 a8 a9 a10 a12 a14 → post (nI len, iv, nI 0, nI T, a1, a2, a3, a4, a5, a6, a7, a8, a9, a10, a11, a12, a13, a14)) :
    wpX_execute post (nI len, iv, pr, tt, a1, a2, a3, a4, a5, a6, a7, a8, a9, a10, a11, a12, a13, a14) := by
  refine pk_loop (fun n i (s : (Nat → Int32) × (Nat → Int32)) => wX_execute_2 post (nI len) iv pr tt n (nI i) a1 a2 a3 a4 (s.1) a6 a7 a8 a9 a10 a11 (s.2) a13 a14) (fun i s => ∀ j, j < i → s.2 j = 0) 14 0 (a5, a12) (by omega) (fun j hj => absurd hj (by omega)) ?_ ?_
  · intro n s h
    exact pk_le 14 14 (fun _ => td_30 hl hP hV h K) (fun z => absurd z (by omega))
  · intro n i s hi h hw
    refine pk_le 14 i (fun z => absurd z (by omega)) (fun _ => ⟨pk_in i 14 hi, nm_e ⟨pk_in i 14 hi, nm_r (e' := upd s.2 i 0) (by rw [nI_clamp (by omega)]) (nm_r (nI_1 i) (hw (_, _) (fun j hj => ?_)))⟩⟩)
    show upd s.2 i 0 j = 0
    by_cases e : j = i
    · rw [e, pk_us]
    · rw [pk_un e]
      exact h j (by omega)
end
section
/-! ===== the questions about time, and the law's 'reached' ===== -/
theorem td_num {T t : Nat} {a10 : Nat → Int32} (h : td_N T a10) (ht : t ≤ T) : ¬ a10 t < 0 ∧ 0 ≤ a10 t := by
  obtain ⟨m, hm, e⟩ := h.2 t ht
  rw [e]
  exact ⟨nI_pos (by omega), nI_pos' (by omega)⟩
theorem td_goTo {post : Int32 → St1 → Prop} {l iv x : Int32} {p T : Nat} {a1 a2 a3 a4 a5 a6 a7 a8 a9 a10 a11 a12 a13 a14 : Nat → Int32} {H : Nat → Nat → Int32} (hX : td_X H p T a5 a6 a7 a8 a9 a10 a12 a14) (t : Nat) (ht : t ≤ T)
    (K : ∀ b5 : Nat → Int32, td_X H t T b5 a6 a7 a8 a9 a10 a12 a14 → post (a10 t) (l, iv, nI t, nI T, a1, a2, a3, a4, b5, a6, a7, a8, a9, a10, a11, a12, a13, a14)) (hx : x = nI t := by rfl) : wpX_goTo post (l, iv, nI p, nI T, a1, a2, a3, a4, a5, a6, a7, a8, a9, a10, a11, a12, a13, a14) x := by
  subst hx
  have hT := hX.2.1
  refine br_f (nI_pos (by omega)) (pk_le t T (fun _ => td_travel hX.1 ht hT hX.2.2.1 hX.2.2.2.1 (fun b5 hb => ⟨pk_in t 201 (by omega), ?_⟩)) (fun z => absurd z (by omega)))
  rw [nI_clamp (by omega)]
  exact K b5 (td_X_at hX ht hb)
theorem td_cell {post : Int32 → Prop} {l iv pr tt : Int32} {i : Nat} {a1 a2 a3 a4 a5 a6 a7 a8 a9 a10 a11 a12 a13 a14 : Nat → Int32} (hi : i < 8) (K : post (a5 (6 + i))) : wpX_cell post (l, iv, pr, tt, a1, a2, a3, a4, a5, a6, a7, a8, a9, a10, a11, a12, a13, a14) (nI i) := by
  have e : (6 : Int32) + nI i = nI (6 + i) := nI_add 6 i
  refine br_f (nI_pos (by omega)) (pk_le i 7 (fun _ => ⟨pk_in (6 + i) 14 (by omega) e, ?_⟩) (fun z => absurd z (by omega)))
  rw [e, nI_clamp (by omega)]
  exact K
theorem td_isVar {post : Int32 → Prop} {l iv pr tt : Int32} {v : Nat} {a1 a2 a3 a4 a5 a6 a7 a8 a9 a10 a11 a12 a13 a14 : Nat → Int32} (hv : v < 6) (K : post 1) : wpX_isVariable post (l, iv, pr, tt, a1, a2, a3, a4, a5, a6, a7, a8, a9, a10, a11, a12, a13, a14) (nI v) :=
  br_f (nI_pos (by omega)) (pk_lt 5 v (fun z => absurd z (by omega)) (fun _ => K))
theorem td_variable {post : Int32 → Prop} {l iv pr tt : Int32} {v : Nat} {a1 a2 a3 a4 a5 a6 a7 a8 a9 a10 a11 a12 a13 a14 : Nat → Int32} (hv : v < 6) (K : post (a5 v)) : wpX_variable post (l, iv, pr, tt, a1, a2, a3, a4, a5, a6, a7, a8, a9, a10, a11, a12, a13, a14) (nI v) := by
  unfold wpX_variable
  refine td_isVar hv ?_
  refine br_f (by decide) ⟨pk_in v 14 (by omega), ?_⟩
  rw [nI_clamp (by omega)]
  exact K
theorem td_sum29 {post : Int32 → Prop} {l iv pr tt : Int32} {a1 a2 a3 a4 a5 a6 a7 a8 a9 a10 a11 a12 a13 a14 : Nat → Int32} (K : post (td_f a5 14)) : ∃ n, wL_sum_29 post l iv pr tt a1 a2 a3 a4 a5 a6 a7 a8 a9 a10 a11 a12 a13 a14 n (td_f a5 6) 0 :=
  pk_loop (σ := Unit) (fun n i _ => wL_sum_29 post l iv pr tt a1 a2 a3 a4 a5 a6 a7 a8 a9 a10 a11 a12 a13 a14 n (td_f a5 (6 + i)) (nI i)) (fun _ _ => True) 8 0 () (by omega) trivial
    (fun n _ _ => pk_le 8 8 (fun _ => K) (fun z => absurd z (by omega)))
    (fun n i _ hi _ hw => pk_le 8 i (fun z => absurd z (by omega)) (fun _ => td_cell hi (nm_r (e' := td_f a5 (6 + i + 1)) rfl (nm_r (nI_1 i) (hw () trivial)))))
theorem td_sum {post : Int32 → Prop} {l iv pr tt : Int32} {a1 a2 a3 a4 a5 a6 a7 a8 a9 a10 a11 a12 a13 a14 : Nat → Int32} (K : post (td_f a5 14)) : wpL_sum post (l, iv, pr, tt, a1, a2, a3, a4, a5, a6, a7, a8, a9, a10, a11, a12, a13, a14) :=
  pk_loop (σ := Unit) (fun n i _ => wL_sum_4 post l iv pr tt a1 a2 a3 a4 a5 a6 a7 a8 a9 a10 a11 a12 a13 a14 n (td_f a5 i) (nI i)) (fun _ _ => True) 6 0 () (by omega) trivial
    (fun n _ _ => pk_le 6 6 (fun _ => td_sum29 K) (fun z => absurd z (by omega)))
    (fun n i _ hi _ hw => pk_le 6 i (fun z => absurd z (by omega)) (fun _ => td_variable hi (nm_r (e' := td_f a5 (i + 1)) rfl (nm_r (nI_1 i) (hw () trivial)))))
theorem td_w7 {post : Int32 → Prop} {l iv tt : Int32} {p : Nat} {a1 a2 a3 a4 a5 a6 a7 a8 a9 a10 a11 a12 a13 a14 : Nat → Int32} (hp : p ≤ 200) (hV : td_V a9) : ∀ n s, s < 201 → s < n → post (nI (td_g a9 p n s)) → wX_writeUpTo_7 post l iv (nI p) tt a1 a2 a3 a4 a5 a6 a7 a8 a9 a10 a11 a12 a13 a14 n (nI s)
  | 0, s, _, h, _ => absurd h (by omega)
  | n + 1, s, h2, h, hK => by
    refine pk_le s p (fun z => ?_) (fun z => ?_)
    · rw [td_g_t a9 z] at hK
      exact hK
    · obtain ⟨s', hs, e⟩ := hV s (by omega)
      rw [td_g_f a9 z, e, nI_clamp (by omega)] at hK
      exact ⟨pk_in s 201 (by omega), nm_r (e' := nI s') (by rw [nI_clamp (by omega), e]) (td_w7 hp hV n s' (by omega) (by omega) hK)⟩
theorem td_writeUpTo {post : Int32 → Prop} {l iv tt : Int32} {p v s : Nat} {a1 a2 a3 a4 a5 a6 a7 a8 a9 a10 a11 a12 a13 a14 : Nat → Int32} (hp : p ≤ 200) (hV : td_V a9) (hv : v < 14) (e : a12 v = nI s) (hs : s < 201) (K : post (nI (td_g a9 p 201 s))) : wpX_writeUpTo post (l, iv, nI p, tt, a1, a2, a3, a4, a5, a6, a7, a8, a9, a10, a11, a12, a13, a14) (nI v) :=
  ⟨pk_in v 14 hv, nm_r (e' := nI s) (by rw [nI_clamp (by omega), e]) ⟨201, td_w7 hp hV 201 s hs hs K⟩⟩
theorem td_bbw {post : Int32 → St1 → Prop} {l iv : Int32} {p T v s : Nat} {a1 a2 a3 a4 a5 a6 a7 a8 a9 a10 a11 a12 a13 a14 : Nat → Int32} {H : Nat → Nat → Int32} (hX : td_X H p T a5 a6 a7 a8 a9 a10 a12 a14) (hv : v < 6) (e : a12 v = nI s) (hs : s ≤ T)
    (K0 : td_g a9 p 201 s = 0 → post (-3) (l, iv, nI p, nI T, a1, a2, a3, a4, a5, a6, a7, a8, a9, a10, a11, a12, a13, a14))
    (K1 : ∀ r, td_g a9 p 201 s = r + 1 → r + 1 ≤ p → ∀ b5 : Nat → Int32, td_X H r T b5 a6 a7 a8 a9 a10 a12 a14 → post (nI r) (l, iv, nI r, nI T, a1, a2, a3, a4, b5, a6, a7, a8, a9, a10, a11, a12, a13, a14)) :
    wpX_backBeforeWrite post (l, iv, nI p, nI T, a1, a2, a3, a4, a5, a6, a7, a8, a9, a10, a11, a12, a13, a14) (nI v) := by
  have hT := hX.2.1
  have hp := hX.1
  have hg := td_g_le hX.2.2.2.2.1 p 201 s (by omega) (by omega)
  unfold wpX_backBeforeWrite
  refine td_isVar hv ?_
  refine br_f (by decide) ?_
  refine td_writeUpTo (by omega) hX.2.2.2.2.1 (by omega) e (by omega) ?_
  generalize td_g a9 p 201 s = g at K0 K1 hg ⊢
  cases g with
  | zero => exact br_t rfl (K0 rfl)
  | succ r =>
    refine br_f (nI_ne0 (by omega) (by omega)) ?_
    rw [nI_pred]
    exact td_travel hX.1 (by omega) hT hX.2.2.1 hX.2.2.2.1 (fun b5 hb => K1 r rfl hg b5 (td_X_at hX (by omega) hb))
theorem td_lastWrite {post : Int32 → Prop} {l iv tt : Int32} {p v s : Nat} {a1 a2 a3 a4 a5 a6 a7 a8 a9 a10 a11 a12 a13 a14 : Nat → Int32} (hp : p ≤ 200) (hV : td_V a9) (hv : v < 6) (e : a12 v = nI s) (hs : s < 201) (K : post (nI (td_g a9 p 201 s))) : wpX_lastWrite post (l, iv, nI p, tt, a1, a2, a3, a4, a5, a6, a7, a8, a9, a10, a11, a12, a13, a14) 0 (nI v) := by
  have e6 : (6 : Int32) * 0 + nI v = nI v := by rw [show (6 : Int32) * 0 = nI 0 from rfl, nI_add, Nat.zero_add]
  refine br_f (by decide) (br_t (by decide) (br_f (nI_pos (by omega)) (br_t rfl (pk_le v 5 (fun _ => ?_) (fun z => absurd z (by omega))))))
  rw [e6]
  exact td_writeUpTo hp hV (by omega) e hs K
theorem td_reached {post : Int32 → St1 → Prop} {l iv x y z : Int32} {p T t f v : Nat} {a1 a2 a3 a4 a5 a6 a7 a8 a9 a10 a11 a12 a13 a14 : Nat → Int32} {H : Nat → Nat → Int32} (hX : td_X H p T a5 a6 a7 a8 a9 a10 a12 a14) (ht : t < 256) (hf : f < 256) (hv : v < 6) (hx : x = nI t) (hy : y = nI f) (hz : z = nI v)
    (K : ∀ (q : Nat) (b5 : Nat → Int32), td_X H q T b5 a6 a7 a8 a9 a10 a12 a14 → post 1 (l, iv, nI q, nI T, a1, a2, a3, a4, b5, a6, a7, a8, a9, a10, a11, a12, a13, a14)) :
    wpL_reached post (l, iv, nI p, nI T, a1, a2, a3, a4, a5, a6, a7, a8, a9, a10, a11, a12, a13, a14) x y z := by
  subst hx hy hz
  have hT := hX.2.1
  have hV := hX.2.2.2.2.1
  have hN := hX.2.2.2.2.2.2
  have h0 : ¬ nI T + 1 = 0 := by rw [nI_1]; exact nI_ne0 (by omega) (by omega)
  have e1 : nI t - nI t / (nI T + 1) * (nI T + 1) = nI (t % (T + 1)) := by rw [nI_1]; exact pk_rem (by omega) (by omega) (by omega)
  have e2 : nI f - nI f / (nI T + 1) * (nI T + 1) = nI (f % (T + 1)) := by rw [nI_1]; exact pk_rem (by omega) (by omega) (by omega)
  have ha : t % (T + 1) ≤ T := Nat.le_of_lt_succ (Nat.mod_lt _ (by omega))
  have hb : f % (T + 1) ≤ T := Nat.le_of_lt_succ (Nat.mod_lt _ (by omega))
  refine ⟨h0, nm_r e1 ⟨h0, nm_r e2 ?_⟩⟩
  generalize t % (T + 1) = a at ha ⊢
  generalize f % (T + 1) = b at hb ⊢
  obtain ⟨s, hs, es⟩ := hX.2.2.2.2.2.1 v (by omega)
  refine td_goTo hX b hb (fun c1 X1 => br_t (td_num hN hb).2 ?_)
  refine td_goTo X1 a ha (fun c2 X2 => td_sum ?_)
  refine td_goTo X2 (T - b) (by omega) (fun c3 X3 => br_f (td_num hN (by omega)).1 ?_) (pk_sub hb)
  refine td_goTo X3 0 (by omega) (fun c4 X4 => br_t hN.1 ?_)
  refine td_goTo X4 a ha (fun c5 X5 => br_t rfl (td_sum (br_t (td_f_eq 14 (fun j hj => ?_)) (br_t rfl ?_))))
  · rw [X5.2.2.2.1 j hj, X2.2.2.2.1 j hj]
  refine td_bbw X5 hv es hs (fun g0 => ?_) (fun r gr hr c6 X6 => ?_)
  · exact br_f (by decide) (br_t rfl (br_t rfl (td_lastWrite (by omega) hV hv es (by omega) (br_t (by rw [g0]; rfl) (K a c5 X5)))))
  · refine br_t (nI_pos' (by omega)) (pk_le a r (fun z => absurd z (by omega)) (fun _ => br_t rfl ?_))
    refine td_goTo X6 (r + 1) (by omega) (fun c7 X7 => br_t (td_num hN (by omega)).2 ?_) (nI_1 r)
    refine td_lastWrite (by omega) hV hv es (by omega) (br_t ?_ (K (r + 1) c7 X7))
    have g := td_g_again hV a 201 s (by omega) (by omega)
    rw [gr] at g
    rw [g, nI_1]
end
section
/-! ===== emit, input, the law ===== -/
/-- the object between two calls of the law -/
def td_I (l iv pr tt : Int32) (a1 a2 a3 a4 a5 a6 a7 a8 a9 a10 a11 a12 a13 a14 : Nat → Int32) : Prop :=
  ∃ (H : Nat → Nat → Int32) (len p T : Nat), l = nI len ∧ len ≤ 20 ∧ pr = nI p ∧ tt = nI T ∧ td_P a1 a2 a3 a4 ∧ td_X H p T a5 a6 a7 a8 a9 a10 a12 a14
theorem td_isV {post : Int32 → Prop} {l iv pr tt x : Int32} {a1 a2 a3 a4 a5 a6 a7 a8 a9 a10 a11 a12 a13 a14 : Nat → Int32} (K0 : post 0) (K1 : (∃ n : Nat, n < 14 ∧ x = nI n) → post 1) : wpX_isVariable post (l, iv, pr, tt, a1, a2, a3, a4, a5, a6, a7, a8, a9, a10, a11, a12, a13, a14) x :=
  br_c (fun _ => K0) (fun g0 => br_c (fun _ => K0) (fun g5 => K1 ((nI_of2 (M := 5) (n := 5) (by decide) g0 (Int32.not_lt.mp g5)).elim fun n h => ⟨n, by omega, h.2⟩)))
theorem td_19 {x : Int32} (g0 : ¬ x < 0) (g : ¬ 19 < x) : ∃ n : Nat, n < 20 ∧ x = nI n :=
  (nI_of2 (M := 19) (n := 19) (by decide) g0 (Int32.not_lt.mp g)).elim fun n h => ⟨n, by omega, h.2⟩
theorem td_op8 : ∀ o, o < 9 → 3 < nI o → nI o = 8 ∨ nI o = 7 ∨ nI o = 6 ∨ nI o = 4 ∨ nI o = 5 := by decide +kernel
theorem td_op (o : Nat) (ho : o < 9) (g : 3 < nI o) (n8 : ¬ nI o = 8) (n7 : ¬ nI o = 7) (n6 : ¬ nI o = 6) (n4 : ¬ nI o = 4) (n5 : ¬ nI o = 5) : False := by
  rcases td_op8 o ho g with h | h | h | h | h
  · exact n8 h
  · exact n7 h
  · exact n6 h
  · exact n4 h
  · exact n5 h
theorem td_fits {post : Int32 → Prop} {l iv pr tt x y z : Int32} {o : Nat} {a1 a2 a3 a4 a5 a6 a7 a8 a9 a10 a11 a12 a13 a14 : Nat → Int32} (ho : o < 9) (K0 : post 0) (K1 : td_E (nI o) x y z → post 1) : wpX_fits post (l, iv, pr, tt, a1, a2, a3, a4, a5, a6, a7, a8, a9, a10, a11, a12, a13, a14) (nI o) x y z := by
  refine br_c (fun e8 => K1 ?_) (fun n8 => br_c (fun e7 => br_c (fun _ => K0) (fun g0 => br_c (fun _ => K0) (fun g => K1 ?_))) (fun n7 => td_isV (br_t rfl K0) (fun hx => br_f (by decide) (br_c (fun e0 => K1 ?_) (fun n0 => br_c (fun e6 => br_c (fun _ => K0) (fun g0 => br_c (fun _ => K0) (fun g => K1 ?_))) (fun n6 => td_isV (br_t rfl K0) (fun hy => br_f (by decide) (br_c (fun g3 => K1 ?_) (fun _ => td_isV (br_t rfl K0) (fun hz => br_f (by decide) (K1 ?_)))))))))))
  · exact ⟨fun e => absurd (e8.symm.trans e) (by decide), fun n => absurd e8 n, fun e => absurd (e8.symm.trans e) (by decide), fun n => absurd e8 n, fun n => absurd e8 n⟩
  · exact ⟨fun _ => td_19 g0 g, fun _ n => absurd e7 n, fun e => absurd (e7.symm.trans e) (by decide), fun _ n => absurd e7 n, fun _ n => absurd e7 n⟩
  · exact ⟨fun e => absurd e n7, fun _ _ => hx, fun e => absurd (e0.symm.trans e) (by decide), fun _ _ _ n => absurd e0 n, fun _ _ _ n => absurd e0 n⟩
  · exact ⟨fun e => absurd e n7, fun _ _ => hx, fun _ => td_19 g0 g, fun _ _ n => absurd e6 n, fun _ _ n => absurd e6 n⟩
  · exact ⟨fun e => absurd e n7, fun _ _ => hx, fun e => absurd e n6, fun _ _ _ _ => hy, fun _ _ _ _ n4 n5 => (td_op o ho g3 n8 n7 n6 n4 n5).elim⟩
  · exact ⟨fun e => absurd e n7, fun _ _ => hx, fun e => absurd e n6, fun _ _ _ _ => hy, fun _ _ _ _ _ _ => hz⟩
section
variable {post : Int32 → St1 → Prop} {l iv pr tt : Int32} {a1 a2 a3 a4 a5 a6 a7 a8 a9 a10 a11 a12 a13 a14 : Nat → Int32}
theorem td_emit {p0 p1 p2 p3 : Int32} (h : td_I l iv pr tt a1 a2 a3 a4 a5 a6 a7 a8 a9 a10 a11 a12 a13 a14) (K : ∀ (r l iv pr tt : Int32) (a1 a2 a3 a4 a5 a6 a7 a8 a9 a10 a11 a12 a13 a14 : Nat → Int32), (r ≤ 0 ∨ ∃ n : Nat, n ≤ 20 ∧ r = nI n) → td_I l iv pr tt a1 a2 a3 a4 a5 a6 a7 a8 a9 a10 a11 a12 a13 a14 → post r (l, iv, pr, tt, a1, a2, a3, a4, a5, a6, a7, a8, a9, a10, a11, a12, a13, a14)) : wpX_emit post (l, iv, pr, tt, a1, a2, a3, a4, a5, a6, a7, a8, a9, a10, a11, a12, a13, a14) p0 p1 p2 p3 := by
  have h' := h
  obtain ⟨H, len, p, T, el, hl, ep, eT, hP, hX⟩ := h
  refine pk_lt len 20 (fun hlen => br_c (fun _ => K (-1) _ _ _ _ _ _ _ _ _ _ _ _ _ _ _ _ _ _ (Or.inl (by decide)) h') (fun g0 => br_c (fun _ => K (-1) _ _ _ _ _ _ _ _ _ _ _ _ _ _ _ _ _ _ (Or.inl (by decide)) h') (fun g8 => ?_))) (fun _ => K (-2) _ _ _ _ _ _ _ _ _ _ _ _ _ _ _ _ _ _ (Or.inl (by decide)) h') el
  obtain ⟨o, ho, eo⟩ := nI_of2 (M := 8) (n := 8) (by decide) g0 (Int32.not_lt.mp g8)
  subst el eo
  have c : (nI len).toNatClampNeg = len := nI_clamp (by omega)
  have w : vp_in (nI len) 20 := vp_in_nI hlen (by decide)
  refine td_fits (by omega) (br_t rfl (K (-1) _ _ _ _ _ _ _ _ _ _ _ _ _ _ _ _ _ _ (Or.inl (by decide)) h')) (fun hE => br_f (by decide) ?_)
  refine ⟨w, nm_r (e' := upd a1 len (nI o)) (by rw [c, td_b8 o (by omega)]) ⟨w, nm_r (e' := upd a2 len p1) (by rw [c]) ⟨w, nm_r (e' := upd a3 len p2) (by rw [c]) ⟨w, nm_r (e' := upd a4 len p3) (by rw [c]) (nm_r (nI_1 len) ?_)⟩⟩⟩⟩
  have hP' := td_P_put (k := len) hP hE
  exact td_execute (by omega) hP' hX.2.2.2.2.1 (fun G U b5 b6 b7 b8 b9 b10 b11 b12 b13 b14 hG => K (nI (len + 1)) _ _ _ _ _ _ _ _ _ _ _ _ _ _ _ _ _ _ (Or.inr ⟨len + 1, by omega, rfl⟩) ⟨G, len + 1, 0, U, rfl, by omega, rfl, rfl, hP', hG⟩)
theorem td_l167 {x7 x8 x9 : Int32} (h : td_I l iv pr tt a1 a2 a3 a4 a5 a6 a7 a8 a9 a10 a11 a12 a13 a14) (K : ∀ (r l iv pr tt : Int32) (a1 a2 a3 a4 a5 a6 a7 a8 a9 a10 a11 a12 a13 a14 : Nat → Int32), (r ≤ 0 ∨ ∃ n : Nat, n ≤ 20 ∧ r = nI n) → td_I l iv pr tt a1 a2 a3 a4 a5 a6 a7 a8 a9 a10 a11 a12 a13 a14 → post r (l, iv, pr, tt, a1, a2, a3, a4, a5, a6, a7, a8, a9, a10, a11, a12, a13, a14)) : wL_emit_167 post x7 x8 x9 l iv pr tt a1 a2 a3 a4 a5 a6 a7 a8 a9 a10 a11 a12 a13 a14 := td_emit h K
theorem td_l143 {x4 x6 x7 x8 x9 : Int32} (h : td_I l iv pr tt a1 a2 a3 a4 a5 a6 a7 a8 a9 a10 a11 a12 a13 a14) (K : ∀ (r l iv pr tt : Int32) (a1 a2 a3 a4 a5 a6 a7 a8 a9 a10 a11 a12 a13 a14 : Nat → Int32), (r ≤ 0 ∨ ∃ n : Nat, n ≤ 20 ∧ r = nI n) → td_I l iv pr tt a1 a2 a3 a4 a5 a6 a7 a8 a9 a10 a11 a12 a13 a14 → post r (l, iv, pr, tt, a1, a2, a3, a4, a5, a6, a7, a8, a9, a10, a11, a12, a13, a14)) : wL_emit_143 post x4 x6 x7 x8 x9 l iv pr tt a1 a2 a3 a4 a5 a6 a7 a8 a9 a10 a11 a12 a13 a14 :=
  br_c (fun _ => br_c (fun _ => td_emit h K) (fun _ => td_l167 h K)) (fun _ => td_l167 h K)
theorem td_l63 {x4 x6 x7 x8 x9 x10 : Int32} (h : td_I l iv pr tt a1 a2 a3 a4 a5 a6 a7 a8 a9 a10 a11 a12 a13 a14) (K : ∀ (r l iv pr tt : Int32) (a1 a2 a3 a4 a5 a6 a7 a8 a9 a10 a11 a12 a13 a14 : Nat → Int32), (r ≤ 0 ∨ ∃ n : Nat, n ≤ 20 ∧ r = nI n) → td_I l iv pr tt a1 a2 a3 a4 a5 a6 a7 a8 a9 a10 a11 a12 a13 a14 → post r (l, iv, pr, tt, a1, a2, a3, a4, a5, a6, a7, a8, a9, a10, a11, a12, a13, a14)) : wL_emit_63 post x4 x6 x7 x8 x9 x10 l iv pr tt a1 a2 a3 a4 a5 a6 a7 a8 a9 a10 a11 a12 a13 a14 :=
  br_c (fun _ => td_emit h K) (fun _ => br_c (fun _ => br_c (fun _ => td_emit h K) (fun _ => br_c (fun _ => br_c (fun _ => td_emit h K) (fun _ => td_l143 h K)) (fun _ => td_l143 h K))) (fun _ => td_emit h K))
theorem td_lemit {p1 p2 p3 p4 : Int32} {n : Nat} (hn : n ≤ 20) (h : td_I l iv pr tt a1 a2 a3 a4 a5 a6 a7 a8 a9 a10 a11 a12 a13 a14) (K : ∀ (r l iv pr tt : Int32) (a1 a2 a3 a4 a5 a6 a7 a8 a9 a10 a11 a12 a13 a14 : Nat → Int32), (r ≤ 0 ∨ ∃ n : Nat, n ≤ 20 ∧ r = nI n) → td_I l iv pr tt a1 a2 a3 a4 a5 a6 a7 a8 a9 a10 a11 a12 a13 a14 → post r (l, iv, pr, tt, a1, a2, a3, a4, a5, a6, a7, a8, a9, a10, a11, a12, a13, a14)) : wpL_emit post (l, iv, pr, tt, a1, a2, a3, a4, a5, a6, a7, a8, a9, a10, a11, a12, a13, a14) p1 p2 p3 p4 (nI n) := by
  have e : nI n + 2 = nI (n + 2) := nI_add n 2
  exact ⟨by decide, nm_e ⟨by decide, nm_e ⟨by decide, nm_e ⟨by decide, nm_e ⟨by rw [e]; exact nI_ne0 (by omega) (by omega), nm_e (br_c (fun _ => td_l63 h K) (fun _ => td_l63 h K))⟩⟩⟩⟩⟩
theorem td_input {v : Int32} (h : td_I l iv pr tt a1 a2 a3 a4 a5 a6 a7 a8 a9 a10 a11 a12 a13 a14) (K : ∀ (l iv pr tt : Int32) (a1 a2 a3 a4 a5 a6 a7 a8 a9 a10 a11 a12 a13 a14 : Nat → Int32), td_I l iv pr tt a1 a2 a3 a4 a5 a6 a7 a8 a9 a10 a11 a12 a13 a14 → post tt (l, iv, pr, tt, a1, a2, a3, a4, a5, a6, a7, a8, a9, a10, a11, a12, a13, a14)) : wpX_input post (l, iv, pr, tt, a1, a2, a3, a4, a5, a6, a7, a8, a9, a10, a11, a12, a13, a14) v := by
  obtain ⟨H, len, p, T, el, hl, ep, eT, hP, hX⟩ := h
  subst el
  exact td_execute hl hP hX.2.2.2.2.1 (fun G U b5 b6 b7 b8 b9 b10 b11 b12 b13 b14 hG => K _ _ _ _ _ _ _ _ _ _ _ _ _ _ _ _ _ _ ⟨G, len, 0, U, rfl, hl, rfl, rfl, hP, hG⟩)
theorem td_rI {x y z : Int32} {t f v : Nat} (h : td_I l iv pr tt a1 a2 a3 a4 a5 a6 a7 a8 a9 a10 a11 a12 a13 a14) (ht : t < 256) (hf : f < 256) (hv : v < 6) (hx : x = nI t) (hy : y = nI f) (hz : z = nI v) (K : ∀ (l iv pr tt : Int32) (a1 a2 a3 a4 a5 a6 a7 a8 a9 a10 a11 a12 a13 a14 : Nat → Int32), td_I l iv pr tt a1 a2 a3 a4 a5 a6 a7 a8 a9 a10 a11 a12 a13 a14 → post 1 (l, iv, pr, tt, a1, a2, a3, a4, a5, a6, a7, a8, a9, a10, a11, a12, a13, a14)) : wpL_reached post (l, iv, pr, tt, a1, a2, a3, a4, a5, a6, a7, a8, a9, a10, a11, a12, a13, a14) x y z := by
  obtain ⟨H, len, p, T, el, hl, ep, eT, hP, hX⟩ := h
  subst el ep eT
  exact td_reached hX ht hf hv hx hy hz (fun q b5 hq => K _ _ _ _ _ _ _ _ _ _ _ _ _ _ _ _ _ _ ⟨H, len, q, T, rfl, hl, rfl, rfl, hP, hq⟩)
end
section
variable {post : Int32 → Prop} {L : Nat} {xs : Nat → Int32} {J : Int32 → Int32 → Int32 → Int32 → Int32 → Int32 → (Nat → Int32) → (Nat → Int32) → (Nat → Int32) → (Nat → Int32) → (Nat → Int32) → (Nat → Int32) → (Nat → Int32) → (Nat → Int32) → (Nat → Int32) → (Nat → Int32) → (Nat → Int32) → (Nat → Int32) → (Nat → Int32) → (Nat → Int32) → Prop} {kc ks : Nat} {l iv pr tt : Int32} {a1 a2 a3 a4 a5 a6 a7 a8 a9 a10 a11 a12 a13 a14 : Nat → Int32}
theorem td_120 {x2 : Int32} {i : Nat} (hi : i + 4 ≤ L) (hL : L ≤ 260) (h : td_I l iv pr tt a1 a2 a3 a4 a5 a6 a7 a8 a9 a10 a11 a12 a13 a14) (K : ∀ (l iv pr tt : Int32) (a1 a2 a3 a4 a5 a6 a7 a8 a9 a10 a11 a12 a13 a14 : Nat → Int32), td_I l iv pr tt a1 a2 a3 a4 a5 a6 a7 a8 a9 a10 a11 a12 a13 a14 → J x2 (nI (i + 4)) l iv pr tt a1 a2 a3 a4 a5 a6 a7 a8 a9 a10 a11 a12 a13 a14) : wL_law_120 post L xs J x2 (nI i) kc ks l iv pr tt a1 a2 a3 a4 a5 a6 a7 a8 a9 a10 a11 a12 a13 a14 := by
  obtain ⟨t, ht, et⟩ := pk_andE (xs (nI i + 1).toNatClampNeg) (m := 255) 8 (by decide)
  obtain ⟨f, hf, ef⟩ := pk_andE (xs (nI i + 2).toNatClampNeg) (m := 255) 8 (by decide)
  obtain ⟨v, hv, ev⟩ := pk_andE (xs (nI i + 3).toNatClampNeg) (m := 255) 8 (by decide)
  have ht : t < 256 := ht
  have hf : f < 256 := hf
  have hv : v < 256 := hv
  refine ⟨pk_in (i + 1) L (by omega) (nI_1 i), pk_in (i + 2) L (by omega) (nI_add i 2), pk_in (i + 3) L (by omega) (nI_add i 3), by decide, ?_⟩
  refine td_rI h ht hf (Nat.mod_lt v (show 0 < 6 by omega)) et ef (by rw [ev]; exact pk_rem (d := 6) (by omega) (by omega) (by omega)) (fun l iv pr tt a1 a2 a3 a4 a5 a6 a7 a8 a9 a10 a11 a12 a13 a14 hI => br_f (by decide) (nm_r (nI_add i 4) (K _ _ _ _ _ _ _ _ _ _ _ _ _ _ _ _ _ _ hI)))
theorem td_47 {n i : Nat} (hn : n ≤ 20) (hi : i + 4 ≤ L) (hL : L ≤ 260) (h : td_I l iv pr tt a1 a2 a3 a4 a5 a6 a7 a8 a9 a10 a11 a12 a13 a14) (K : ∀ (n : Nat) (l iv pr tt : Int32) (a1 a2 a3 a4 a5 a6 a7 a8 a9 a10 a11 a12 a13 a14 : Nat → Int32), n ≤ 20 → td_I l iv pr tt a1 a2 a3 a4 a5 a6 a7 a8 a9 a10 a11 a12 a13 a14 → J (nI n) (nI (i + 4)) l iv pr tt a1 a2 a3 a4 a5 a6 a7 a8 a9 a10 a11 a12 a13 a14) : wL_law_47 post L xs J (nI n) (nI i) kc ks l iv pr tt a1 a2 a3 a4 a5 a6 a7 a8 a9 a10 a11 a12 a13 a14 := by
  refine ⟨pk_in i L (by omega), pk_in (i + 1) L (by omega) (nI_1 i), pk_in (i + 2) L (by omega) (nI_add i 2), pk_in (i + 3) L (by omega) (nI_add i 3), ?_⟩
  refine td_lemit hn h (fun r l iv pr tt a1 a2 a3 a4 a5 a6 a7 a8 a9 a10 a11 a12 a13 a14 hr hI => br_c (fun _ => td_120 hi hL hI (fun l iv pr tt a1 a2 a3 a4 a5 a6 a7 a8 a9 a10 a11 a12 a13 a14 hI' => K n _ _ _ _ _ _ _ _ _ _ _ _ _ _ _ _ _ _ hn hI')) (fun g => ?_))
  rcases hr with hr | ⟨n', hn', rfl⟩
  · exact absurd hr g
  · exact td_120 hi hL hI (fun l iv pr tt a1 a2 a3 a4 a5 a6 a7 a8 a9 a10 a11 a12 a13 a14 hI' => K n' _ _ _ _ _ _ _ _ _ _ _ _ _ _ _ _ _ _ hn' hI')
end
theorem td_cmp {L i : Nat} (hL : L ≤ 260) (hi : i ≤ 300) : (nI L - 4 < nI i) ↔ L < i + 4 := by
  have e : (nI L - 4).toInt = (L : Int) - 4 := pk_sub_toInt (b := 4) (by omega) (by omega)
  rw [Int32.lt_iff_toInt_lt, e, nI_toInt (by omega)]
  omega
theorem td_25 {L : Nat} {xs : Nat → Int32} {kc ks : Nat} (hL : L ≤ 260) : ∀ (d i n : Nat) (l iv pr tt : Int32) (a1 a2 a3 a4 a5 a6 a7 a8 a9 a10 a11 a12 a13 a14 : Nat → Int32), L ≤ i + d → i ≤ 300 → n ≤ 20 → td_I l iv pr tt a1 a2 a3 a4 a5 a6 a7 a8 a9 a10 a11 a12 a13 a14 → wL_law_25 (fun r => r = 1) L xs kc ks (d + 1) (nI n) (nI i) l iv pr tt a1 a2 a3 a4 a5 a6 a7 a8 a9 a10 a11 a12 a13 a14
  | 0, i, n, l, iv, pr, tt, a1, a2, a3, a4, a5, a6, a7, a8, a9, a10, a11, a12, a13, a14, hd, hi, hn, h =>
    br_t ((td_cmp hL hi).mpr (by omega)) (td_rI (t := 250) (f := 7) (v := 5) h (by omega) (by omega) (by omega) rfl rfl rfl (fun l iv pr tt a1 a2 a3 a4 a5 a6 a7 a8 a9 a10 a11 a12 a13 a14 _ => rfl))
  | d + 1, i, n, l, iv, pr, tt, a1, a2, a3, a4, a5, a6, a7, a8, a9, a10, a11, a12, a13, a14, hd, hi, hn, h => by
    by_cases c : L < i + 4
    · exact br_t ((td_cmp hL hi).mpr c) (td_rI (t := 250) (f := 7) (v := 5) h (by omega) (by omega) (by omega) rfl rfl rfl (fun l iv pr tt a1 a2 a3 a4 a5 a6 a7 a8 a9 a10 a11 a12 a13 a14 _ => rfl))
    · have go : ∀ (n : Nat) (l iv pr tt : Int32) (a1 a2 a3 a4 a5 a6 a7 a8 a9 a10 a11 a12 a13 a14 : Nat → Int32), n ≤ 20 → td_I l iv pr tt a1 a2 a3 a4 a5 a6 a7 a8 a9 a10 a11 a12 a13 a14 → wL_law_25 (fun r => r = 1) L xs kc ks (d + 1) (nI n) (nI (i + 4)) l iv pr tt a1 a2 a3 a4 a5 a6 a7 a8 a9 a10 a11 a12 a13 a14 := fun n l iv pr tt a1 a2 a3 a4 a5 a6 a7 a8 a9 a10 a11 a12 a13 a14 hn hI => td_25 hL d (i + 4) n l iv pr tt a1 a2 a3 a4 a5 a6 a7 a8 a9 a10 a11 a12 a13 a14 (by omega) (by omega) hn hI
      refine br_f (fun z => c ((td_cmp hL hi).mp z)) ⟨pk_in i L (by omega), br_c (fun _ => pk_eq n 0 (fun _ => td_47 hn (by omega) hL h go) (fun _ => ⟨pk_in i L (by omega), br_c (fun _ => ⟨pk_in (i + 1) L (by omega) (nI_1 i), nm_e (td_input h (fun l iv pr tt a1 a2 a3 a4 a5 a6 a7 a8 a9 a10 a11 a12 a13 a14 hI => br_t rfl (td_120 (by omega) hL hI (fun l iv pr tt a1 a2 a3 a4 a5 a6 a7 a8 a9 a10 a11 a12 a13 a14 hI' => go n _ _ _ _ _ _ _ _ _ _ _ _ _ _ _ _ _ _ hn hI'))))⟩) (fun _ => td_120 (by omega) hL h (fun l iv pr tt a1 a2 a3 a4 a5 a6 a7 a8 a9 a10 a11 a12 a13 a14 hI' => go n _ _ _ _ _ _ _ _ _ _ _ _ _ _ _ _ _ _ hn hI'))⟩)) (fun _ => td_47 hn (by omega) hL h go)⟩
theorem td_lcell {post : Int32 → Prop} {L : Nat} {xs : Nat → Int32} (hL : L ≤ 260) (K : ∀ r, post r) : wpL_cell post L xs () 0 :=
  pk_le L 0 (fun _ => K 0) (fun z => ⟨pk_in 0 L z, K _⟩)
theorem i_vc (xs : Nat → Int32) (L : Nat) (hL : L ≤ 260) : wpL_law (fun r => r = 1) L xs := by
  refine ⟨14, 1405, by decide, by decide, ?_⟩
  refine ⟨by decide, by decide, by decide, by decide, by decide, by decide, by decide, by decide, by decide, by decide, by decide, by decide, by decide, by decide, by decide, by decide, by decide, by decide, by decide, by decide, by decide, by decide, by decide, by decide, by decide, by decide, by decide, by decide, ?_⟩
  have hP : td_P (fun _ => 0) (fun _ => 0) (fun _ => 0) (fun _ => 0) := fun _ _ => td_E0
  have hV : td_V (fun _ => 0) := fun t ht => ⟨0, ht, rfl⟩
  refine td_execute (len := 0) (by omega) hP hV (fun G U b5 b6 b7 b8 b9 b10 b11 b12 b13 b14 hG => td_lcell hL (fun r => ?_))
  refine td_input ⟨G, 0, 0, U, rfl, by omega, rfl, rfl, hP, hG⟩ (fun l iv pr tt a1 a2 a3 a4 a5 a6 a7 a8 a9 a10 a11 a12 a13 a14 hI => ⟨L + 1, ?_⟩)
  exact td_25 hL L 1 0 _ _ _ _ _ _ _ _ _ _ _ _ _ _ _ _ _ _ (by omega) (by omega) (by omega) hI
end
