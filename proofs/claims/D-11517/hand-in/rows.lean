section
/-- what an edge of gain g asks for at its beginning, x being the need at its end and T the top -/
def eg_ask (T x : Nat) (g : Int) : Nat := if T ≤ x then T else if (x : Int) - g < 0 then 0 else if (T : Int) ≤ (x : Int) - g then T else ((x : Int) - g).toNat
theorem eg_ask_le (T x : Nat) (g : Int) : eg_ask T x g ≤ T := by
  unfold eg_ask
  repeat' split
  all_goals omega
theorem eg_ask_mono {T x y : Nat} {g : Int} (h : x ≤ y) : eg_ask T x g ≤ eg_ask T y g := by
  unfold eg_ask
  repeat' split
  all_goals omega
/-- the least (mn) or the greatest of f over the places below k that P takes -/
def eg_pick (mn : Bool) (P : Nat → Bool) (f : Nat → Nat) : Nat → Option Nat
  | 0 => none
  | k + 1 => if P k = true then (match eg_pick mn P f k with | none => some (f k) | some r => some (if mn = true then (if r ≤ f k then r else f k) else (if f k ≤ r then r else f k))) else eg_pick mn P f k
def eg_ole : Option Nat → Option Nat → Prop
  | none, none => True
  | some a, some b => a ≤ b
  | _, _ => False
theorem eg_ole_get {a b : Option Nat} (h : eg_ole a b) : a.getD 0 ≤ b.getD 0 := by
  cases a <;> cases b
  · exact Nat.le_refl 0
  · exact False.elim h
  · exact False.elim h
  · exact h
theorem eg_pick_mono {mn mn' : Bool} {P : Nat → Bool} {f f' : Nat → Nat} (hm : mn' = true → mn = true) (k : Nat) (h : ∀ e, e < k → P e = true → f e ≤ f' e) : eg_ole (eg_pick mn P f k) (eg_pick mn' P f' k) := by
  induction k with
  | zero => exact trivial
  | succ k ih =>
    have ih' := ih (fun e he hp => h e (by omega) hp)
    by_cases hp : P k = true
    · have hk := h k (by omega) hp
      unfold eg_pick
      rw [if_pos hp, if_pos hp]
      cases ha : eg_pick mn P f k <;> cases hb : eg_pick mn' P f' k
      · exact hk
      · rw [ha, hb] at ih'
        exact False.elim ih'
      · rw [ha, hb] at ih'
        exact False.elim ih'
      · rw [ha, hb] at ih'
        rename_i a b
        have ih2 : a ≤ b := ih'
        show (if mn = true then (if a ≤ f k then a else f k) else (if f k ≤ a then a else f k)) ≤ (if mn' = true then (if b ≤ f' k then b else f' k) else (if f' k ≤ b then b else f' k))
        by_cases c' : mn' = true
        · rw [if_pos c', if_pos (hm c')]
          repeat' split
          all_goals omega
        · rw [if_neg c']
          by_cases c : mn = true
          · rw [if_pos c]
            repeat' split
            all_goals omega
          · rw [if_neg c]
            repeat' split
            all_goals omega
    · unfold eg_pick
      rw [if_neg hp, if_neg hp]
      exact ih'
theorem eg_pick_le {mn : Bool} {P : Nat → Bool} {f : Nat → Nat} {T : Nat} (hf : ∀ e, f e ≤ T) (k : Nat) : ∀ r, eg_pick mn P f k = some r → r ≤ T := by
  induction k with
  | zero => intro r h; exact absurd (show some r = none from h.symm) (Option.some_ne_none r)
  | succ k ih =>
    intro r h
    unfold eg_pick at h
    by_cases hp : P k = true
    · rw [if_pos hp] at h
      have hk := hf k
      cases ha : eg_pick mn P f k with
      | none =>
        rw [ha] at h
        have h2 : some (f k) = some r := h
        have h3 := Option.some.inj h2
        omega
      | some a =>
        rw [ha] at h
        have h2 : some (if mn = true then (if a ≤ f k then a else f k) else (if f k ≤ a then a else f k)) = some r := h
        have h3 := Option.some.inj h2
        have h4 := ih a ha
        rw [← h3]
        repeat' split
        all_goals omega
    · rw [if_neg hp] at h
      exact ih r h
theorem eg_pick_congr {mn : Bool} {P : Nat → Bool} {f f' : Nat → Nat} (k : Nat) (h : ∀ e, e < k → P e = true → f e = f' e) : eg_pick mn P f k = eg_pick mn P f' k := by
  induction k with
  | zero => rfl
  | succ k ih =>
    have ih' := ih (fun e he hp => h e (by omega) hp)
    unfold eg_pick
    by_cases hp : P k = true
    · rw [if_pos hp, if_pos hp, ih', h k (by omega) hp]
    · rw [if_neg hp, if_neg hp, ih']
/-- what vertex v wants, the needs being N -/
def eg_F (m T : Nat) (t h : Nat → Nat) (g : Nat → Int) (o : Nat → Bool) (N : Nat → Nat) (v : Nat) : Nat := (eg_pick (o v) (fun e => decide (t e = v)) (fun e => eg_ask T (N (h e)) (g e)) m).getD 0
theorem eg_F_le (m T : Nat) (t h : Nat → Nat) (g : Nat → Int) (o : Nat → Bool) (N : Nat → Nat) (v : Nat) : eg_F m T t h g o N v ≤ T := by
  unfold eg_F
  cases hx : eg_pick (o v) (fun e => decide (t e = v)) (fun e => eg_ask T (N (h e)) (g e)) m with
  | none => exact Nat.zero_le _
  | some r => exact eg_pick_le (fun e => eg_ask_le T _ _) m r hx
theorem eg_F_mono {n m T : Nat} {t h : Nat → Nat} {g : Nat → Int} {o o' : Nat → Bool} {N Y : Nat → Nat} {v : Nat} (hh : ∀ e, e < m → h e < n) (hN : ∀ w, w < n → N w ≤ Y w) (ho : o' v = true → o v = true) : eg_F m T t h g o N v ≤ eg_F m T t h g o' Y v :=
  eg_ole_get (eg_pick_mono ho m (fun e he _ => eg_ask_mono (hN _ (hh e he))))
/-- only the needs at the ends of v's edges count -/
theorem eg_F_congr {m T : Nat} {t h : Nat → Nat} {g : Nat → Int} {o : Nat → Bool} {N Y : Nat → Nat} {v : Nat} (hN : ∀ e, e < m → t e = v → N (h e) = Y (h e)) : eg_F m T t h g o N v = eg_F m T t h g o Y v := by
  unfold eg_F
  rw [eg_pick_congr m (f' := fun e => eg_ask T (Y (h e)) (g e))]
  intro e he hp
  show eg_ask T (N (h e)) (g e) = eg_ask T (Y (h e)) (g e)
  rw [hN e he (of_decide_eq_true hp)]
/-- N is the least that meets all wants -/
def eg_Lf (n m T : Nat) (t h : Nat → Nat) (g : Nat → Int) (o : Nat → Bool) (N : Nat → Nat) : Prop :=
  (∀ v, v < n → N v ≤ T) ∧ (∀ v, v < n → eg_F m T t h g o N v ≤ N v) ∧ ∀ Y : Nat → Nat, (∀ v, v < n → eg_F m T t h g o Y v ≤ Y v) → ∀ v, v < n → N v ≤ Y v
theorem eg_Lf_uniq {n m T : Nat} {t h : Nat → Nat} {g : Nat → Int} {o : Nat → Bool} {N N' : Nat → Nat} (a : eg_Lf n m T t h g o N) (b : eg_Lf n m T t h g o N') : ∀ v, v < n → N v = N' v :=
  fun v hv => Nat.le_antisymm (a.2.2 N' b.2.1 v hv) (b.2.2 N a.2.1 v hv)
theorem eg_Lf_mono {n m T : Nat} {t h : Nat → Nat} {g : Nat → Int} {o o' : Nat → Bool} {N N' : Nat → Nat} (hh : ∀ e, e < m → h e < n) (ho : ∀ v, v < n → o' v = true → o v = true) (a : eg_Lf n m T t h g o N) (b : eg_Lf n m T t h g o' N') : ∀ v, v < n → N v ≤ N' v :=
  a.2.2 N' (fun v hv => Nat.le_trans (eg_F_mono hh (fun w _ => Nat.le_refl _) (ho v hv)) (b.2.1 v hv))
theorem eg_Lf_ex {n m T : Nat} {t h : Nat → Nat} {g : Nat → Int} {o : Nat → Bool} (hh : ∀ e, e < m → h e < n) : ∃ N, eg_Lf n m T t h g o N := by
  have ex : ∀ v : Nat, ∃ k : Nat, (∃ Y : Nat → Nat, (∀ w, w < n → eg_F m T t h g o Y w ≤ Y w) ∧ Y v = k) ∧ ∀ j, j < k → ¬ (∃ Y : Nat → Nat, (∀ w, w < n → eg_F m T t h g o Y w ≤ Y w) ∧ Y v = j) :=
    fun v => pk_least (fun k => ∃ Y : Nat → Nat, (∀ w, w < n → eg_F m T t h g o Y w ≤ Y w) ∧ Y v = k) ⟨T, fun _ => T, fun w _ => eg_F_le m T t h g o _ w, rfl⟩
  obtain ⟨N, hN⟩ := Classical.skolem.mp ex
  have least : ∀ Y : Nat → Nat, (∀ w, w < n → eg_F m T t h g o Y w ≤ Y w) → ∀ v, N v ≤ Y v := by
    intro Y hY v
    rcases Nat.lt_or_ge (Y v) (N v) with z | z
    · exact absurd ⟨Y, hY, rfl⟩ ((hN v).2 (Y v) z)
    · exact z
  refine ⟨N, fun v _ => least (fun _ => T) (fun w _ => eg_F_le m T t h g o _ w) v, fun v hv => ?_, fun Y hY v _ => least Y hY v⟩
  obtain ⟨Y, hY, e⟩ := (hN v).1
  rw [← e]
  exact Nat.le_trans (eg_F_mono hh (fun w _ => least Y hY w) (fun z => z)) (hY v hv)
end
section
/-- how many of the places below k aren't 0 -/
def eg_cnt (a : Nat → Int32) : Nat → Nat
  | 0 => 0
  | k + 1 => eg_cnt a k + (if a k = 0 then 0 else 1)
theorem eg_cnt_s (a : Nat → Int32) (k : Nat) : eg_cnt a (k + 1) = eg_cnt a k + (if a k = 0 then 0 else 1) := rfl
theorem eg_cnt_le (a : Nat → Int32) (k : Nat) : eg_cnt a k ≤ k := by
  induction k with
  | zero => exact Nat.le_refl 0
  | succ k ih =>
    rw [eg_cnt_s]
    split
    all_goals omega
theorem eg_cnt_out {a : Nat → Int32} {w : Nat} {x : Int32} (k : Nat) (h : k ≤ w) : eg_cnt (upd a w x) k = eg_cnt a k := by
  induction k with
  | zero => rfl
  | succ k ih => rw [eg_cnt_s, eg_cnt_s, ih (by omega), pk_un (by omega)]
theorem eg_cnt_1 {a : Nat → Int32} {w : Nat} (h0 : a w = 0) (k : Nat) (h : w < k) : eg_cnt (upd a w 1) k = eg_cnt a k + 1 := by
  induction k with
  | zero => omega
  | succ k ih =>
    rw [eg_cnt_s, eg_cnt_s]
    by_cases e : k = w
    · rw [e, pk_us, h0, eg_cnt_out w (Nat.le_refl w), if_neg (by decide), if_pos rfl]
    · rw [pk_un e, ih (by omega)]
      omega
theorem eg_cnt_0 {a : Nat → Int32} {w : Nat} (h1 : ¬ a w = 0) (k : Nat) (h : w < k) : eg_cnt (upd a w 0) k + 1 = eg_cnt a k := by
  induction k with
  | zero => omega
  | succ k ih =>
    rw [eg_cnt_s, eg_cnt_s]
    by_cases e : k = w
    · rw [e, pk_us, eg_cnt_out w (Nat.le_refl w), if_neg h1, if_pos rfl]
    · have := ih (by omega)
      rw [pk_un e]
      omega
theorem eg_cnt_z {a : Nat → Int32} (k : Nat) (h : eg_cnt a k = 0) : ∀ w, w < k → a w = 0 := by
  induction k with
  | zero => intro w hw; omega
  | succ k ih =>
    intro w hw
    rw [eg_cnt_s] at h
    by_cases e : a k = 0
    · rw [if_pos e] at h
      by_cases ew : w = k
      · rw [ew, e]
      · exact ih (by omega) w (by omega)
    · rw [if_neg e] at h
      omega
theorem eg_cnt_all {a : Nat → Int32} (k : Nat) (h : ∀ w, w < k → a w = 1) : eg_cnt a k = k := by
  induction k with
  | zero => rfl
  | succ k ih => rw [eg_cnt_s, ih (fun w hw => h w (by omega)), h k (by omega), if_neg (by decide)]
/-- the ring: from place f on c vertices wait, each once; the flags say which -/
def eg_Q (n f c : Nat) (a6 a7 : Nat → Int32) : Prop :=
  f < 8 ∧ (∀ v, v < n → a6 v = 0 ∨ a6 v = 1) ∧ c = eg_cnt a6 n ∧ (∀ i, i < c → ∃ w, w < n ∧ a7 ((f + i) % 8) = nI w ∧ a6 w = 1) ∧ (∀ i j, i < j → j < c → ¬ a7 ((f + i) % 8) = a7 ((f + j) % 8))
theorem eg_Q_le {n f c : Nat} {a6 a7 : Nat → Int32} (q : eg_Q n f c a6 a7) : c ≤ n := by
  obtain ⟨_, _, hc, _, _⟩ := q
  rw [hc]
  exact eg_cnt_le a6 n
theorem eg_Q_add {n f c w : Nat} {a6 a7 : Nat → Int32} (hn : n ≤ 6) (q : eg_Q n f c a6 a7) (hw : w < n) (h0 : a6 w = 0) : eg_Q n f (c + 1) (upd a6 w 1) (upd a7 ((f + c) % 8) (nI w)) := by
  obtain ⟨hf, hb, hc, hi, hd⟩ := q
  have hc1 := eg_cnt_1 h0 n hw
  have hc2 := eg_cnt_le (upd a6 w 1) n
  refine ⟨hf, fun v hv => ?_, by omega, fun i hi' => ?_, fun i j hij hj => ?_⟩
  · by_cases e : v = w
    · rw [e, pk_us]
      exact Or.inr rfl
    · rw [pk_un e]
      exact hb v hv
  · by_cases e : i = c
    · rw [e, pk_us]
      exact ⟨w, hw, rfl, pk_us⟩
    · obtain ⟨w', h1, h2, h3⟩ := hi i (by omega)
      refine ⟨w', h1, ?_, ?_⟩
      · rw [pk_un (by omega)]
        exact h2
      · rw [pk_un (fun z => by rw [z, h0] at h3; exact absurd h3 (by decide))]
        exact h3
  · by_cases e : j = c
    · obtain ⟨w', h1, h2, h3⟩ := hi i (by omega)
      rw [e, pk_us, pk_un (by omega), h2, nI_eq (by omega) (by omega)]
      intro z
      rw [z, h0] at h3
      exact absurd h3 (by decide)
    · rw [pk_un (by omega), pk_un (by omega)]
      exact hd i j hij (by omega)
theorem eg_Q_pop {n f c : Nat} {a6 a7 : Nat → Int32} (hn : n ≤ 6) (q : eg_Q n f c a6 a7) (h : 0 < c) : ∃ v, v < n ∧ a7 f = nI v ∧ a6 v = 1 ∧ eg_Q n ((f + 1) % 8) (c - 1) (upd a6 v 0) a7 := by
  have hcn := eg_Q_le q
  obtain ⟨hf, hb, hc, hi, hd⟩ := q
  obtain ⟨v, h1, h2, h3⟩ := hi 0 h
  rw [show (f + 0) % 8 = f by omega] at h2
  have hc0 := eg_cnt_0 (a := a6) (w := v) (by rw [h3]; decide) n h1
  refine ⟨v, h1, h2, h3, by omega, fun w hw => ?_, by omega, fun i hi' => ?_, fun i j hij hj => ?_⟩
  · by_cases e : w = v
    · rw [e, pk_us]
      exact Or.inl rfl
    · rw [pk_un e]
      exact hb w hw
  · obtain ⟨w', g1, g2, g3⟩ := hi (i + 1) (by omega)
    have hne := hd 0 (i + 1) (by omega) (by omega)
    rw [show (f + 0) % 8 = f by omega, h2, g2] at hne
    rw [show ((f + 1) % 8 + i) % 8 = (f + (i + 1)) % 8 by omega]
    refine ⟨w', g1, g2, ?_⟩
    rw [pk_un (fun z => hne (by rw [z]))]
    exact g3
  · rw [show ((f + 1) % 8 + i) % 8 = (f + (i + 1)) % 8 by omega, show ((f + 1) % 8 + j) % 8 = (f + (j + 1)) % 8 by omega]
    exact hd (i + 1) (j + 1) (by omega) (by omega)
theorem eg_Q_init {n : Nat} {a6 a7 : Nat → Int32} (hn : n ≤ 6) (h6 : ∀ v, v < n → a6 v = 1) (h7 : ∀ v, v < n → a7 v = nI v) : eg_Q n 0 n a6 a7 := by
  refine ⟨by omega, fun v hv => Or.inr (h6 v hv), (eg_cnt_all n h6).symm, fun i hi => ⟨i, hi, ?_, h6 i hi⟩, fun i j hij hj => ?_⟩
  · rw [show (0 + i) % 8 = i by omega]
    exact h7 i hi
  · rw [show (0 + i) % 8 = i by omega, show (0 + j) % 8 = j by omega, h7 i (by omega), h7 j hj, nI_eq (by omega) (by omega)]
    omega
/-- a need written -/
def eg_up (M : Nat → Nat) (v r : Nat) : Nat → Nat := fun j => if j = v then r else M j
theorem eg_up_s {M : Nat → Nat} {v r : Nat} : eg_up M v r v = r := if_pos rfl
theorem eg_up_n {M : Nat → Nat} {v r j : Nat} (h : j ≠ v) : eg_up M v r j = M j := if_neg h
/-- what the needs below k still lack -/
def eg_gap (T : Nat) (M : Nat → Nat) : Nat → Nat
  | 0 => 0
  | k + 1 => eg_gap T M k + (T - M k)
theorem eg_gap_out {T : Nat} {M : Nat → Nat} {v r : Nat} (k : Nat) (h : k ≤ v) : eg_gap T (eg_up M v r) k = eg_gap T M k := by
  induction k with
  | zero => rfl
  | succ k ih =>
    show eg_gap T (eg_up M v r) k + (T - eg_up M v r k) = eg_gap T M k + (T - M k)
    rw [ih (by omega), eg_up_n (by omega)]
theorem eg_gap_up {T : Nat} {M : Nat → Nat} {v r : Nat} (hr : M v < r) (hT : r ≤ T) (k : Nat) (h : v < k) : eg_gap T (eg_up M v r) k + 1 ≤ eg_gap T M k := by
  induction k with
  | zero => omega
  | succ k ih =>
    show eg_gap T (eg_up M v r) k + (T - eg_up M v r k) + 1 ≤ eg_gap T M k + (T - M k)
    by_cases e : k = v
    · rw [e, eg_gap_out v (Nat.le_refl v), eg_up_s]
      omega
    · have := ih (by omega)
      rw [eg_up_n e]
      omega
theorem eg_gap_0 (T : Nat) (k : Nat) : eg_gap T (fun _ => 0) k = k * T := by
  induction k with
  | zero => exact (Nat.zero_mul T).symm
  | succ k ih =>
    show eg_gap T (fun _ => 0) k + (T - 0) = (k + 1) * T
    rw [ih, Nat.succ_mul]
    omega
end
section
/-- arrays as pictures -/
def eg_t (a : Nat → Int32) : Nat → Nat := fun e => (a e).toNatClampNeg
def eg_g (a : Nat → Int32) : Nat → Int := fun e => (a e).toInt
def eg_o (a : Nat → Int32) : Nat → Bool := fun v => decide (a v = 0)
/-- how many of the places below k hold u -/
def eg_deg (a : Nat → Int32) (u : Int32) : Nat → Nat
  | 0 => 0
  | k + 1 => eg_deg a u k + (if a k = u then 1 else 0)
/-- the game's own facts: n vertices, m edges, top T -/
def eg_C (n m T : Nat) (a1 a2 a3 a4 : Nat → Int32) : Prop :=
  2 ≤ n ∧ n ≤ 6 ∧ m ≤ 14 ∧ T = 6 * (n - 1) + 1 ∧ (∀ e, e < m → vp_in (a1 e) n) ∧ (∀ e, e < m → vp_in (a2 e) n) ∧ (∀ e, e < m → -6 ≤ (a3 e).toInt ∧ (a3 e).toInt ≤ 6) ∧ (∀ v, v < n → a4 v = 0 ∨ a4 v = 1) ∧ (∀ u : Int32, eg_deg a1 u m ≤ 3)
/-- the array of needs holds M -/
def eg_R (n : Nat) (M : Nat → Nat) (a5 : Nat → Int32) : Prop := ∀ v, v < n → a5 v = nI (M v)
/-- N: the least needs of the game -/
def eg_L (n m T : Nat) (a1 a2 a3 a4 : Nat → Int32) (N : Nat → Nat) : Prop := eg_Lf n m T (eg_t a1) (eg_t a2) (eg_g a3) (eg_o a4) N
theorem eg_vt {x : Int32} {n : Nat} (h : vp_in x n) (hn : n < 2 ^ 31) : x = nI x.toNatClampNeg ∧ x.toNatClampNeg < n := by
  obtain ⟨j, hj, rfl⟩ := vp_in_of h hn
  rw [nI_clamp (by omega)]
  exact ⟨rfl, hj⟩
theorem eg_vw {x : Int32} {n k : Nat} (h : vp_in x n) (hk : n ≤ k) : vp_in x k := by
  rw [vp_in_iff] at h ⊢
  omega
theorem eg_i0 : (0 : Int32).toInt = 0 := by decide
theorem eg_sub {k : Nat} {y : Int32} (hk : k ≤ 1000) (h1 : -1000 ≤ y.toInt) (h2 : y.toInt ≤ 1000) : (nI k - y).toInt = (k : Int) - y.toInt := by
  rw [Int32.toInt_sub, nI_toInt (by omega)]
  exact Int.bmod_eq_of_le (by omega) (by omega)
theorem eg_asked {post : Int32 → Prop} {n m T : Nat} {sk cur : Int32} {a1 a2 a3 a4 a5 a6 a7 : Nat → Int32} {M : Nat → Nat} (C : eg_C n m T a1 a2 a3 a4) (R : eg_R n M a5) (hM : ∀ v, v < n → M v ≤ T) {e : Nat} (he : e < m)
    (hp : post (nI (eg_ask T (M (eg_t a2 e)) (eg_g a3 e)))) : wpX_asked post (nI n, nI m, nI T, sk, cur, a1, a2, a3, a4, a5, a6, a7) (nI e) := by
  obtain ⟨h2, h6, h14, hT, c1, c2, c3, c4, cd⟩ := C
  unfold wpX_asked
  dsimp only
  rw [nI_clamp (show e < 2 ^ 31 by omega)]
  have hv := eg_vt (c2 e he) (by omega)
  have hx : a5 (a2 e).toNatClampNeg = nI (M (eg_t a2 e)) := R _ hv.2
  have hm : M (eg_t a2 e) ≤ T := hM _ hv.2
  have hg : -6 ≤ eg_g a3 e ∧ eg_g a3 e ≤ 6 := c3 e he
  have hs : (nI (M (eg_t a2 e)) - a3 e).toInt = (M (eg_t a2 e) : Int) - eg_g a3 e := eg_sub (by omega) (by have := (c3 e he).1; omega) (by have := (c3 e he).2; omega)
  refine ⟨pk_in e 14 (by omega), eg_vw (c2 e he) (by omega), nm_r hx ?_⟩
  refine pk_eq (M (eg_t a2 e)) T (fun z => ?_) (fun z => ⟨pk_in e 14 (by omega), nm_e ?_⟩)
  · rw [show eg_ask T (M (eg_t a2 e)) (eg_g a3 e) = T from if_pos (by omega)] at hp
    exact hp
  · refine br_c (fun k0 => br_c (fun k1 => ?_) (fun k1 => ?_)) (fun k0 => ?_)
    · rw [Int32.le_iff_toInt_le, hs, nI_toInt (by omega)] at k1
      rw [show eg_ask T (M (eg_t a2 e)) (eg_g a3 e) = T from by unfold eg_ask; rw [if_neg (by omega), if_neg (by omega), if_pos k1]] at hp
      exact hp
    · rw [Int32.le_iff_toInt_le, hs, nI_toInt (by omega)] at k1
      rw [Int32.le_iff_toInt_le, hs, eg_i0] at k0
      rw [show eg_ask T (M (eg_t a2 e)) (eg_g a3 e) = ((M (eg_t a2 e) : Int) - eg_g a3 e).toNat from by unfold eg_ask; rw [if_neg (by omega), if_neg (by omega), if_neg k1]] at hp
      rw [show nI (M (eg_t a2 e)) - a3 e = nI ((M (eg_t a2 e) : Int) - eg_g a3 e).toNat from Int32.toInt_inj.mp (by rw [hs, nI_toInt (by omega)]; omega)]
      exact hp
    · rw [Int32.le_iff_toInt_le, hs, eg_i0] at k0
      rw [show eg_ask T (M (eg_t a2 e)) (eg_g a3 e) = 0 from by unfold eg_ask; rw [if_neg (by omega), if_pos (by omega)], nI_0] at hp
      exact hp
theorem eg_pick_n {mn : Bool} {P : Nat → Bool} {f : Nat → Nat} {k : Nat} (h : ¬ P k = true) : eg_pick mn P f (k + 1) = eg_pick mn P f k := if_neg h
theorem eg_pick_0 {mn : Bool} {P : Nat → Bool} {f : Nat → Nat} {k : Nat} (h : P k = true) (hx : eg_pick mn P f k = none) : eg_pick mn P f (k + 1) = some (f k) := by
  unfold eg_pick
  rw [if_pos h, hx]
theorem eg_pick_1 {mn : Bool} {P : Nat → Bool} {f : Nat → Nat} {k r : Nat} (h : P k = true) (hx : eg_pick mn P f k = some r) : eg_pick mn P f (k + 1) = some (if mn = true then (if r ≤ f k then r else f k) else (if f k ≤ r then r else f k)) := by
  unfold eg_pick
  rw [if_pos h, hx]
/-- what the walk over the edges holds at edge i -/
def eg_pk (T : Nat) (a1 a2 a3 a4 : Nat → Int32) (M : Nat → Nat) (v i : Nat) : Option Nat := eg_pick (eg_o a4 v) (fun e => decide (eg_t a1 e = v)) (fun e => eg_ask T (M (eg_t a2 e)) (eg_g a3 e)) i
def eg_ov : Option Nat → Int32
  | none => -1
  | some r => nI r
theorem eg_wanted {post : Int32 → Prop} {n m T : Nat} {cur : Int32} {a1 a2 a3 a4 a5 a6 a7 : Nat → Int32} {M : Nat → Nat} (C : eg_C n m T a1 a2 a3 a4) (R : eg_R n M a5) (hM : ∀ v, v < n → M v ≤ T) {v : Nat} (hv : v < n)
    (hp : post (nI (eg_F m T (eg_t a1) (eg_t a2) (eg_g a3) (eg_o a4) M v))) : wpX_wantedAt post (nI n, nI m, nI T, -1, cur, a1, a2, a3, a4, a5, a6, a7) (nI v) := by
  have C' := C
  obtain ⟨h2, h6, h14, hT, c1, c2, c3, c4, cd⟩ := C'
  unfold wpX_wantedAt
  dsimp only
  refine pk_loop (fun k i s => wX_wantedAt_4 post (nI v) (nI n) (nI m) (nI T) (-1) cur a1 a2 a3 a4 a5 a6 a7 k s (nI i)) (fun i s => s = eg_ov (eg_pk T a1 a2 a3 a4 M v i)) m 0 (-1) (Nat.zero_le m) rfl ?_ ?_
  · intro k s hs
    refine pk_le m m (fun _ => ?_) (fun z => absurd z (by omega))
    have hp' : post (nI ((eg_pk T a1 a2 a3 a4 M v m).getD 0)) := hp
    cases hx : eg_pk T a1 a2 a3 a4 M v m with
    | none =>
      rw [hx] at hp' hs
      rw [hs]
      exact br_f (by decide) hp'
    | some r =>
      have hr : r ≤ T := eg_pick_le (fun e => eg_ask_le T _ _) m r hx
      rw [hx] at hp' hs
      rw [hs]
      exact br_t (nI_pos' (by omega)) hp'
  · intro k i s hi hs hw
    have hw' := hw _ rfl
    refine pk_le m i (fun z => absurd z (by omega)) (fun _ => ⟨pk_in i 14 (by omega), ?_⟩)
    rw [nI_clamp (show i < 2 ^ 31 by omega)]
    by_cases hc : a1 i = nI v
    · have ht : decide (eg_t a1 i = v) = true := decide_eq_true (by unfold eg_t; rw [hc]; exact nI_clamp (by omega))
      have hal := eg_ask_le T (M (eg_t a2 i)) (eg_g a3 i)
      have hne : ¬ nI i = -1 := fun z => nI_pos (n := i) (by omega) (by rw [z]; decide)
      refine br_t hc (br_f hne (eg_asked C R hM hi ?_))
      cases hx : eg_pk T a1 a2 a3 a4 M v i with
      | none =>
        rw [hx] at hs
        have hn : eg_pk T a1 a2 a3 a4 M v (i + 1) = some (eg_ask T (M (eg_t a2 i)) (eg_g a3 i)) := eg_pick_0 ht hx
        rw [hn] at hw'
        rw [hs]
        exact br_t (by decide) (br_f (by decide) (nm_r (nI_1 i) hw'))
      | some r =>
        have hr : r ≤ T := eg_pick_le (fun e => eg_ask_le T _ _) i r hx
        rw [hx] at hs
        have hn : eg_pk T a1 a2 a3 a4 M v (i + 1) = some (if eg_o a4 v = true then (if r ≤ eg_ask T (M (eg_t a2 i)) (eg_g a3 i) then r else eg_ask T (M (eg_t a2 i)) (eg_g a3 i)) else (if eg_ask T (M (eg_t a2 i)) (eg_g a3 i) ≤ r then r else eg_ask T (M (eg_t a2 i)) (eg_g a3 i))) := eg_pick_1 ht hx
        rw [hn] at hw'
        rw [hs]
        refine br_f (nI_pos (by omega)) ⟨pk_in v 6 (by omega), ?_⟩
        rw [nI_clamp (show v < 2 ^ 31 by omega)]
        by_cases ho : a4 v = 0
        · rw [if_pos (show eg_o a4 v = true from decide_eq_true ho)] at hw'
          refine br_t ho (pk_le r (eg_ask T (M (eg_t a2 i)) (eg_g a3 i)) (fun z => ?_) (fun z => ?_))
          · rw [if_pos z] at hw'
            exact br_t rfl (nm_r (nI_1 i) hw')
          · rw [if_neg (by omega)] at hw'
            exact br_f (by decide) (nm_r (nI_1 i) hw')
        · rw [if_neg (show ¬ eg_o a4 v = true from fun z => ho (of_decide_eq_true z))] at hw'
          refine br_f ho (pk_le (eg_ask T (M (eg_t a2 i)) (eg_g a3 i)) r (fun z => ?_) (fun z => ?_))
          · rw [if_pos z] at hw'
            exact br_t rfl (nm_r (nI_1 i) hw')
          · rw [if_neg (by omega)] at hw'
            exact br_f (by decide) (nm_r (nI_1 i) hw')
    · have ht : ¬ decide (eg_t a1 i = v) = true := fun z => hc (by rw [(eg_vt (c1 i hi) (by omega)).1]; exact congrArg nI (of_decide_eq_true z))
      have hn : eg_pk T a1 a2 a3 a4 M v (i + 1) = eg_pk T a1 a2 a3 a4 M v i := eg_pick_n ht
      rw [hn] at hw'
      rw [hs]
      exact br_f hc (nm_r (nI_1 i) hw')
theorem eg_one {b : Nat → Int32} {t w : Nat} (h : w ≠ t → ¬ b w = 0) : ¬ upd b t 1 w = 0 := by
  by_cases e : w = t
  · rw [e, pk_us]
    decide
  · rw [pk_un e]
    exact h e
theorem eg_and7 {f : Nat} (h : f < 8) : nI f &&& 7 = nI f := by
  rw [pk_andN (by omega) 3 (by decide)]
  exact congrArg nI (by omega)
theorem eg_inc7 {f : Nat} (h : f < 8) : (nI f + 1) &&& 7 = nI ((f + 1) % 8) := by
  rw [nI_1, pk_andN (by omega) 3 (by decide)]
theorem eg_116 {post : St1 → Prop} {J : Int32 → Int32 → Int32 → (Nat → Int32) → (Nat → Int32) → (Nat → Int32) → (Nat → Int32) → (Nat → Int32) → (Nat → Int32) → (Nat → Int32) → Prop} {n m T f kk v c : Nat} {cur : Int32} {a1 a2 a3 a4 a5 a6 a7 : Nat → Int32}
    (C : eg_C n m T a1 a2 a3 a4) (q : eg_Q n f c a6 a7)
    (H : ∀ (c' : Nat) (b6 b7 : Nat → Int32), eg_Q n f c' b6 b7 → (∀ w, w < n → ¬ a6 w = 0 → ¬ b6 w = 0) → (∀ e, e < m → a2 e = nI v → ¬ b6 (eg_t a1 e) = 0) → J (nI f) (nI ((f + c') % 8)) (nI (kk + 1)) a1 a2 a3 a4 a5 b6 b7) :
    ∃ k, wX_solve_116 post J (nI f) (nI kk) (nI v) (nI n) (nI m) (nI T) (-1) cur k (nI ((f + c) % 8)) 0 a1 a2 a3 a4 a5 a6 a7 := by
  obtain ⟨h2, h6, h14, hT, c1, c2, c3, c4, cd⟩ := C
  refine pk_loop (σ := Nat × (Nat → Int32) × (Nat → Int32)) (fun k i s => wX_solve_116 post J (nI f) (nI kk) (nI v) (nI n) (nI m) (nI T) (-1) cur k (nI ((f + s.1) % 8)) (nI i) a1 a2 a3 a4 a5 s.2.1 s.2.2)
    (fun i s => eg_Q n f s.1 s.2.1 s.2.2 ∧ (∀ w, w < n → ¬ a6 w = 0 → ¬ s.2.1 w = 0) ∧ (∀ e, e < i → a2 e = nI v → ¬ s.2.1 (eg_t a1 e) = 0)) m 0 (c, a6, a7) (Nat.zero_le m) ⟨q, fun _ _ z => z, fun e he => absurd he (by omega)⟩ ?_ ?_
  · intro k s hI
    obtain ⟨c', b6, b7⟩ := s
    obtain ⟨q', u1, u2⟩ := hI
    exact pk_le m m (fun _ => nm_r (nI_1 kk) (H c' b6 b7 q' u1 u2)) (fun z => absurd z (by omega))
  · intro k i s hi hI hw
    obtain ⟨c', b6, b7⟩ := s
    obtain ⟨q', u1, u2⟩ := hI
    dsimp only at q' u1 u2
    have hf : f < 8 := q'.1
    obtain ⟨e1, l1⟩ := eg_vt (c1 i hi) (by omega)
    refine pk_le m i (fun z => absurd z (by omega)) (fun _ => ⟨pk_in i 14 (by omega), ?_⟩)
    rw [nI_clamp (show i < 2 ^ 31 by omega)]
    by_cases hc : a2 i = nI v
    · refine br_t hc ⟨pk_in i 14 (by omega), eg_vw (c1 i hi) (by omega), ?_⟩
      by_cases h0 : b6 (a1 i).toNatClampNeg = 0
      · have hand : nI ((f + c') % 8) &&& 7 = nI ((f + c') % 8) := eg_and7 (by omega)
        have hinc : (nI ((f + c') % 8) + 1) &&& 7 = nI ((f + (c' + 1)) % 8) := by
          rw [eg_inc7 (by omega)]
          exact congrArg nI (by omega)
        refine br_t h0 ⟨pk_in i 14 (by omega), eg_vw (c1 i hi) (by omega), nm_e ⟨pk_in i 14 (by omega), pk_in ((f + c') % 8) 8 (by omega) hand, ?_⟩⟩
        refine nm_r (e' := upd b7 ((f + c') % 8) (nI (a1 i).toNatClampNeg)) (by rw [hand, nI_clamp (by omega), ← e1]) (nm_r hinc (nm_r (nI_1 i) ?_))
        refine hw (c' + 1, upd b6 (a1 i).toNatClampNeg 1, upd b7 ((f + c') % 8) (nI (a1 i).toNatClampNeg)) ⟨eg_Q_add h6 q' l1 h0, fun w hwn ha => eg_one (fun _ => u1 w hwn ha), fun e he ha => eg_one (fun hne => u2 e ?_ ha)⟩
        rcases Nat.lt_or_ge e i with z | z
        · exact z
        · exact absurd (show eg_t a1 e = (a1 i).toNatClampNeg by rw [show e = i by omega]; rfl) hne
      · refine br_f h0 (nm_r (nI_1 i) (hw (c', b6, b7) ⟨q', u1, fun e he ha => ?_⟩))
        rcases Nat.lt_or_ge e i with z | z
        · exact u2 e z ha
        · rw [show e = i by omega]
          exact h0
    · refine br_f hc (nm_r (nI_1 i) (hw (c', b6, b7) ⟨q', u1, fun e he ha => ?_⟩))
      rcases Nat.lt_or_ge e i with z | z
      · exact u2 e z ha
      · rw [show e = i by omega] at ha
        exact absurd ha hc
theorem eg_46 {post : St1 → Prop} {n m T : Nat} {cur : Int32} {a1 a2 a3 a4 a5 a6 a7 : Nat → Int32} {N : Nat → Nat}
    (C : eg_C n m T a1 a2 a3 a4) (L : eg_L n m T a1 a2 a3 a4 N) (H : ∀ b5 b6 b7, eg_R n N b5 → post (nI n, nI m, nI T, -1, cur, a1, a2, a3, a4, b5, b6, b7))
    (R0 : ∀ v, v < n → a5 v = 0) (h6s : ∀ v, v < n → a6 v = 1) (h7s : ∀ v, v < n → a7 v = nI v) :
    ∃ k, wX_solve_46 post (nI n) (nI m) (nI T) (-1) cur k 0 (nI ((0 + n) % 8)) 0 a1 a2 a3 a4 a5 a6 a7 := by
  have C' := C
  obtain ⟨h2, h6, h14, hT, c1, c2, c3, c4, cd⟩ := C'
  have hh : ∀ e, e < m → eg_t a2 e < n := fun e he => (eg_vt (c2 e he) (by omega)).2
  refine pk_loop (σ := Nat × Nat × (Nat → Nat) × (Nat → Int32) × (Nat → Int32) × (Nat → Int32))
    (fun k i s => wX_solve_46 post (nI n) (nI m) (nI T) (-1) cur k (nI s.1) (nI ((s.1 + s.2.1) % 8)) (nI i) a1 a2 a3 a4 s.2.2.2.1 s.2.2.2.2.1 s.2.2.2.2.2)
    (fun i s => eg_Q n s.1 s.2.1 s.2.2.2.2.1 s.2.2.2.2.2 ∧ eg_R n s.2.2.1 s.2.2.2.1 ∧ (∀ v, v < n → s.2.2.1 v ≤ N v) ∧ (∀ v, v < n → s.2.2.2.2.1 v = 0 → eg_F m T (eg_t a1) (eg_t a2) (eg_g a3) (eg_o a4) s.2.2.1 v ≤ s.2.2.1 v) ∧ i + s.2.1 + 6 * eg_gap T s.2.2.1 n ≤ 1122)
    1200 0 (0, n, (fun _ => 0), a5, a6, a7) (by omega) ⟨eg_Q_init h6 h6s h7s, R0, fun v _ => Nat.zero_le _, fun v hv h0 => absurd ((h6s v hv).symm.trans h0) (by decide), ?_⟩ ?_ ?_
  · show 0 + n + 6 * eg_gap T (fun _ => 0) n ≤ 1122
    rw [eg_gap_0]
    have h1 : n * T ≤ 6 * 31 := Nat.mul_le_mul h6 (by omega)
    omega
  · intro k s hI
    obtain ⟨f, c, M, b5, b6, b7⟩ := s
    obtain ⟨_, _, _, _, hp⟩ := hI
    exact absurd hp (by dsimp only; omega)
  · intro k i s hi hI hw
    obtain ⟨f, c, M, b5, b6, b7⟩ := s
    obtain ⟨q, R, hMN, hF, hp⟩ := hI
    dsimp only at q R hMN hF hp
    have hM : ∀ v, v < n → M v ≤ T := fun v hv => Nat.le_trans (hMN v hv) (L.1 v hv)
    have hcn := eg_Q_le q
    have hf : f < 8 := q.1
    refine pk_le 1200 i (fun z => absurd z (by omega)) (fun _ => pk_eq f ((f + c) % 8) (fun z => ?_) (fun z => ?_))
    · have c0 : eg_cnt b6 n = 0 := by have := q.2.2.1; omega
      have a0 := eg_cnt_z n c0
      refine H b5 b6 b7 (fun v hv => ?_)
      rw [R v hv, Nat.le_antisymm (hMN v hv) (L.2.2 M (fun w hw => hF w hw (a0 w hw)) v hv)]
    · have hc1 : 0 < c := by omega
      obtain ⟨v, hv, e7, e6, q2⟩ := eg_Q_pop h6 q hc1
      have hl : ((f + 1) % 8 + (c - 1)) % 8 = (f + c) % 8 := by omega
      refine ⟨pk_in f 8 hf (eg_and7 hf), nm_r (e' := nI v) (by rw [eg_and7 hf, nI_clamp (by omega)]; exact e7) (nm_r (eg_inc7 hf) ⟨pk_in v 6 (by omega), ?_⟩)⟩
      rw [nI_clamp (show v < 2 ^ 31 by omega)]
      refine nm_e (eg_wanted C R hM hv ⟨pk_in v 6 (by omega), ?_⟩)
      have hFT := eg_F_le m T (eg_t a1) (eg_t a2) (eg_g a3) (eg_o a4) M v
      have hMv := hM v hv
      refine pk_le (eg_F m T (eg_t a1) (eg_t a2) (eg_g a3) (eg_o a4) M v) (M v) (fun z => nm_r (nI_1 i) ?_) (fun z => ⟨pk_in v 6 (by omega), nm_e ?_⟩) rfl (R v hv)
      · have t := hw ((f + 1) % 8, c - 1, M, b5, upd b6 v 0, b7) ⟨q2, R, hMN, fun w hwn h0 => ?_, by dsimp only; omega⟩
        · dsimp only at t
          rw [hl] at t
          exact t
        · dsimp only at h0 ⊢
          by_cases e : w = v
          · rw [e]
            exact z
          · rw [pk_un e] at h0
            exact hF w hwn h0
      · rw [← hl]
        refine eg_116 C q2 (fun c' b6' b7' q' u1 u2 => ?_)
        have hg := eg_gap_up z hFT n hv
        have hc' := eg_Q_le q'
        refine hw ((f + 1) % 8, c', eg_up M v (eg_F m T (eg_t a1) (eg_t a2) (eg_g a3) (eg_o a4) M v), upd b5 v (nI (eg_F m T (eg_t a1) (eg_t a2) (eg_g a3) (eg_o a4) M v)), b6', b7') ⟨q', fun w hwn => ?_, fun w hwn => ?_, fun w hwn h0 => ?_, by dsimp only; omega⟩
        · dsimp only
          by_cases e : w = v
          · rw [e, pk_us, eg_up_s]
          · rw [pk_un e, eg_up_n e]
            exact R w hwn
        · dsimp only
          by_cases e : w = v
          · rw [e, eg_up_s]
            exact Nat.le_trans (eg_F_mono hh hMN (fun z => z)) (L.2.1 v hv)
          · rw [eg_up_n e]
            exact hMN w hwn
        · dsimp only at h0 ⊢
          have no : ∀ e, e < m → eg_t a1 e = w → eg_t a2 e ≠ v := by
            intro e he ht hv2
            refine u2 e he ?_ (by rw [ht]; exact h0)
            rw [(eg_vt (c2 e he) (by omega)).1]
            exact congrArg nI hv2
          rw [eg_F_congr (fun e he ht => eg_up_n (no e he ht))]
          by_cases e : w = v
          · rw [e, eg_up_s]
            exact Nat.le_refl _
          · rw [eg_up_n e]
            by_cases hb : b6 w = 0
            · exact hF w hwn hb
            · exact absurd h0 (u1 w hwn (by rw [pk_un e]; exact hb))
theorem eg_fill {f s : Nat → Int32} {i : Nat} {x : Int32} (h : ∀ j, j < i → s j = f j) (hx : x = f i) : ∀ j, j < i + 1 → upd s i x j = f j := by
  intro j hj
  by_cases e : j = i
  · rw [e, pk_us, hx]
  · rw [pk_un e]
    exact h j (by omega)
theorem eg_solve {post : St1 → Prop} {n m T : Nat} {cur : Int32} {a1 a2 a3 a4 a5 a6 a7 : Nat → Int32} {N : Nat → Nat}
    (C : eg_C n m T a1 a2 a3 a4) (L : eg_L n m T a1 a2 a3 a4 N) (H : ∀ b5 b6 b7, eg_R n N b5 → post (nI n, nI m, nI T, -1, cur, a1, a2, a3, a4, b5, b6, b7)) :
    wpX_solve post (nI n, nI m, nI T, -1, cur, a1, a2, a3, a4, a5, a6, a7) := by
  have C' := C
  obtain ⟨h2, h6, h14, hT, c1, c2, c3, c4, cd⟩ := C'
  unfold wpX_solve
  dsimp only
  refine pk_loop (σ := (Nat → Int32) × (Nat → Int32) × (Nat → Int32)) (fun k i s => wX_solve_6 post 0 (nI n) (nI m) (nI T) (-1) cur k (nI i) (nI i) a1 a2 a3 a4 s.1 s.2.1 s.2.2)
    (fun i s => (∀ v, v < i → s.1 v = 0) ∧ (∀ v, v < i → s.2.1 v = 1) ∧ (∀ v, v < i → s.2.2 v = nI v)) n 0 (a5, a6, a7) (by omega) ⟨lt_0, lt_0, lt_0⟩ ?_ ?_
  · intro k s hI
    obtain ⟨b5, b6, b7⟩ := s
    obtain ⟨i5, i6, i7⟩ := hI
    have t := eg_46 C L H i5 i6 i7
    rw [show (0 + n) % 8 = n by omega] at t
    exact pk_le n n (fun _ => t) (fun z => absurd z (by omega))
  · intro k i s hi hI hw
    obtain ⟨b5, b6, b7⟩ := s
    obtain ⟨i5, i6, i7⟩ := hI
    dsimp only at i5 i6 i7
    refine pk_le n i (fun z => absurd z (by omega)) (fun _ => ⟨pk_in i 6 (by omega), ?_⟩)
    rw [nI_clamp (show i < 2 ^ 31 by omega)]
    refine nm_e ⟨pk_in i 6 (by omega), nm_e ⟨pk_in i 8 (by omega), nm_e (nm_r (nI_1 i) (nm_r (nI_1 i) ?_))⟩⟩
    exact hw (upd b5 i 0, upd b6 i 1, upd b7 i (nI i)) ⟨eg_fill (f := fun _ => 0) i5 rfl, eg_fill (f := fun _ => 1) i6 rfl, eg_fill (f := nI) i7 rfl⟩
end
section
theorem eg_isV {post : Int32 → Prop} {n v : Nat} {f1 f2 f3 f4 : Int32} {a1 a2 a3 a4 a5 a6 a7 : Nat → Int32} (hn : n ≤ 6) (hv : v < n) (hp : post 1) : wpX_isVertex post (nI n, f1, f2, f3, f4, a1, a2, a3, a4, a5, a6, a7) (nI v) :=
  br_f (nI_pos (by omega)) (pk_le n v (fun z => absurd z (by omega)) (fun _ => hp))
theorem eg_isV0 {post : Int32 → Prop} {n v : Nat} {f1 f2 f3 f4 : Int32} {a1 a2 a3 a4 a5 a6 a7 : Nat → Int32} (hn : n ≤ 6) (hv : v = n) (hp : post 0) : wpX_isVertex post (nI n, f1, f2, f3, f4, a1, a2, a3, a4, a5, a6, a7) (nI v) :=
  br_f (nI_pos (by omega)) (pk_le n v (fun _ => hp) (fun z => absurd z (by omega)))
theorem eg_isE0 {post : Int32 → Prop} {m e : Nat} {f0 f2 f3 f4 : Int32} {a1 a2 a3 a4 a5 a6 a7 : Nat → Int32} (hm : m ≤ 14) (he : e = m) (hp : post 0) : wpX_isEdge post (f0, nI m, f2, f3, f4, a1, a2, a3, a4, a5, a6, a7) (nI e) :=
  br_f (nI_pos (by omega)) (pk_le m e (fun _ => hp) (fun z => absurd z (by omega)))
theorem eg_refresh {post : St1 → Prop} {n m T : Nat} {cur : Int32} {a1 a2 a3 a4 a5 a6 a7 : Nat → Int32} {N : Nat → Nat}
    (C : eg_C n m T a1 a2 a3 a4) (L : eg_L n m T a1 a2 a3 a4 N) (hcur : ¬ cur = 0 → eg_R n N a5)
    (H : ∀ cur' b5 b6 b7, ¬ cur' = 0 → eg_R n N b5 → post (nI n, nI m, nI T, -1, cur', a1, a2, a3, a4, b5, b6, b7)) :
    wpX_refresh post (nI n, nI m, nI T, -1, cur, a1, a2, a3, a4, a5, a6, a7) := by
  unfold wpX_refresh
  dsimp only
  exact br_c (fun _ => eg_solve C L (fun b5 b6 b7 R => H 1 b5 b6 b7 (by decide) R)) (fun h => H cur a5 a6 a7 h (hcur h))
/-- a need as it is shown -/
def eg_sh (T x : Nat) : Int32 := if x = T then -2 else nI x
theorem eg_shown {post : Int32 → Prop} {n T v : Nat} {f1 f3 f4 : Int32} {a1 a2 a3 a4 a5 a6 a7 : Nat → Int32} {N : Nat → Nat} (hn : n ≤ 6) (hT : T ≤ 31) (R : eg_R n N a5) (hv : v < n) (hN : N v ≤ T) (hp : post (eg_sh T (N v))) :
    wpX_shown post (nI n, f1, nI T, f3, f4, a1, a2, a3, a4, a5, a6, a7) (nI v) := by
  unfold wpX_shown
  dsimp only
  rw [nI_clamp (show v < 2 ^ 31 by omega), R v hv]
  unfold eg_sh at hp
  refine ⟨pk_in v 6 (by omega), pk_eq (N v) T (fun z => ?_) (fun z => ⟨pk_in v 6 (by omega), ?_⟩)⟩
  · rw [if_pos z] at hp
    exact hp
  · rw [if_neg z] at hp
    exact hp
theorem eg_need {post : Int32 → St1 → Prop} {n m T v : Nat} {cur : Int32} {a1 a2 a3 a4 a5 a6 a7 : Nat → Int32} {N : Nat → Nat}
    (C : eg_C n m T a1 a2 a3 a4) (L : eg_L n m T a1 a2 a3 a4 N) (hcur : ¬ cur = 0 → eg_R n N a5) (hv : v < n)
    (H : ∀ cur' b5 b6 b7, ¬ cur' = 0 → eg_R n N b5 → post (eg_sh T (N v)) (nI n, nI m, nI T, -1, cur', a1, a2, a3, a4, b5, b6, b7)) :
    wpX_need post (nI n, nI m, nI T, -1, cur, a1, a2, a3, a4, a5, a6, a7) (nI v) := by
  have C' := C
  obtain ⟨h2, h6, h14, hT, c1, c2, c3, c4, cd⟩ := C'
  unfold wpX_need
  dsimp only
  refine eg_isV h6 hv (br_f (by decide) (eg_refresh C L hcur (fun cur' b5 b6 b7 hc R => ?_)))
  exact eg_shown h6 (by omega) R hv (L.1 v hv) (H cur' b5 b6 b7 hc R)
theorem eg_uu (a : Nat → Int32) (v : Nat) (p : Int32) : upd (upd a v p) v (a v) = a := by
  funext j
  by_cases e : j = v
  · rw [e, pk_us]
  · rw [pk_un e, pk_un e]
theorem eg_uself {a : Nat → Int32} {v : Nat} {p : Int32} (h : a v = p) : upd a v p = a := by
  funext j
  by_cases e : j = v
  · rw [e, pk_us, h]
  · rw [pk_un e]
theorem eg_C_own {n m T v : Nat} {p : Int32} {a1 a2 a3 a4 : Nat → Int32} (C : eg_C n m T a1 a2 a3 a4) (hp : p = 0 ∨ p = 1) : eg_C n m T a1 a2 a3 (upd a4 v p) := by
  obtain ⟨h2, h6, h14, hT, c1, c2, c3, c4, cd⟩ := C
  refine ⟨h2, h6, h14, hT, c1, c2, c3, fun w hw => ?_, cd⟩
  by_cases e : w = v
  · rw [e, pk_us]
    exact hp
  · rw [pk_un e]
    exact c4 w hw
theorem eg_needOf {post : Int32 → St1 → Prop} {n m T v : Nat} {cur p : Int32} {a1 a2 a3 a4 a5 a6 a7 : Nat → Int32} {N : Nat → Nat}
    (C : eg_C n m T a1 a2 a3 a4) (hp : p = 0 ∨ p = 1) (L : eg_L n m T a1 a2 a3 (upd a4 v p) N) (hv : v < n)
    (H : ∀ b5 b6 b7, post (eg_sh T (N v)) (nI n, nI m, nI T, -1, 0, a1, a2, a3, a4, b5, b6, b7)) :
    wpX_needOf post (nI n, nI m, nI T, -1, cur, a1, a2, a3, a4, a5, a6, a7) (nI v) p := by
  have C2 := eg_C_own (v := v) C hp
  have C' := C
  obtain ⟨h2, h6, h14, hT, c1, c2, c3, c4, cd⟩ := C'
  have key : wX_needOf_22 post (nI v) p (nI n) (nI m) (nI T) (-1) cur a1 a2 a3 a4 a5 a6 a7 := by
    unfold wX_needOf_22
    rw [nI_clamp (show v < 2 ^ 31 by omega)]
    refine ⟨pk_in v 6 (by omega), nm_e ⟨pk_in v 6 (by omega), nm_e (eg_solve C2 L (fun b5 b6 b7 R => ?_))⟩⟩
    dsimp only
    refine ⟨pk_in v 6 (by omega), nm_r (eg_uu a4 v p) (eg_shown h6 (by omega) R hv (L.1 v hv) (H b5 b6 b7))⟩
  unfold wpX_needOf
  dsimp only
  refine eg_isV h6 hv (br_f (by decide) ?_)
  rcases hp with e | e
  · exact br_t e key
  · exact br_f (by rw [e]; decide) (br_t e key)
theorem eg_needOf2 {post : Int32 → St1 → Prop} {n m T : Nat} {cur : Int32} {a1 a2 a3 a4 a5 a6 a7 : Nat → Int32} (C : eg_C n m T a1 a2 a3 a4)
    (H : post (-3) (nI n, nI m, nI T, -1, cur, a1, a2, a3, a4, a5, a6, a7)) : wpX_needOf post (nI n, nI m, nI T, -1, cur, a1, a2, a3, a4, a5, a6, a7) 0 2 := by
  obtain ⟨h2, h6, h14, hT, c1, c2, c3, c4, cd⟩ := C
  unfold wpX_needOf
  dsimp only
  exact eg_isV (v := 0) h6 (by omega) (br_f (by decide) (br_f (by decide) (br_f (by decide) H)))
theorem eg_without {post : Int32 → St1 → Prop} {n m T : Nat} {cur : Int32} {a1 a2 a3 a4 a5 a6 a7 : Nat → Int32} (C : eg_C n m T a1 a2 a3 a4)
    (H : post (-3) (nI n, nI m, nI T, -1, cur, a1, a2, a3, a4, a5, a6, a7)) : wpX_needWithout post (nI n, nI m, nI T, -1, cur, a1, a2, a3, a4, a5, a6, a7) 0 (nI m) := by
  obtain ⟨h2, h6, h14, hT, c1, c2, c3, c4, cd⟩ := C
  unfold wpX_needWithout
  dsimp only
  exact eg_isV (v := 0) h6 (by omega) (br_f (by decide) (eg_isE0 h14 rfl (br_t rfl H)))
theorem eg_need0 {post : Int32 → St1 → Prop} {n m T : Nat} {cur : Int32} {a1 a2 a3 a4 a5 a6 a7 : Nat → Int32} (C : eg_C n m T a1 a2 a3 a4)
    (H : post (-1) (nI n, nI m, nI T, -1, cur, a1, a2, a3, a4, a5, a6, a7)) : wpX_need post (nI n, nI m, nI T, -1, cur, a1, a2, a3, a4, a5, a6, a7) (nI n) := by
  obtain ⟨h2, h6, h14, hT, c1, c2, c3, c4, cd⟩ := C
  unfold wpX_need
  dsimp only
  exact eg_isV0 h6 rfl (br_t rfl H)
/-- the law's three sums -/
def eg_lost (T : Nat) (N : Nat → Nat) : Nat → Nat
  | 0 => 0
  | k + 1 => eg_lost T N k + (if N k = T then 1 else 0)
def eg_most (T : Nat) (N : Nat → Nat) : Nat → Nat
  | 0 => 0
  | k + 1 => if T ≤ N k then eg_most T N k else if N k ≤ eg_most T N k then eg_most T N k else N k
def eg_safe (cr : Int32) (T : Nat) (N : Nat → Nat) : Nat → Int32
  | 0 => 0
  | k + 1 => if T ≤ N k then eg_safe cr T N k else if cr < nI (N k) then eg_safe cr T N k else (eg_safe cr T N k ||| ((1 : Int32) <<< (nI k &&& 31)))
theorem eg_most_s (T : Nat) (N : Nat → Nat) (k : Nat) : eg_most T N (k + 1) = if T ≤ N k then eg_most T N k else if N k ≤ eg_most T N k then eg_most T N k else N k := rfl
theorem eg_safe_s (cr : Int32) (T : Nat) (N : Nat → Nat) (k : Nat) : eg_safe cr T N (k + 1) = if T ≤ N k then eg_safe cr T N k else if cr < nI (N k) then eg_safe cr T N k else (eg_safe cr T N k ||| ((1 : Int32) <<< (nI k &&& 31))) := rfl
theorem eg_most_le (T : Nat) (N : Nat → Nat) (k : Nat) : eg_most T N k ≤ T := by
  induction k with
  | zero => exact Nat.zero_le T
  | succ k ih =>
    rw [eg_most_s]
    repeat' split
    all_goals omega
theorem eg_hopeless {post : Int32 → St1 → Prop} {n m T : Nat} {cur : Int32} {a1 a2 a3 a4 a5 a6 a7 : Nat → Int32} {N : Nat → Nat}
    (C : eg_C n m T a1 a2 a3 a4) (L : eg_L n m T a1 a2 a3 a4 N) (hcur : ¬ cur = 0 → eg_R n N a5)
    (H : ∀ cur' b5 b6 b7, ¬ cur' = 0 → eg_R n N b5 → post (nI (eg_lost T N n)) (nI n, nI m, nI T, -1, cur', a1, a2, a3, a4, b5, b6, b7)) :
    wpX_hopeless post (nI n, nI m, nI T, -1, cur, a1, a2, a3, a4, a5, a6, a7) := by
  have C' := C
  obtain ⟨h2, h6, h14, hT, c1, c2, c3, c4, cd⟩ := C'
  unfold wpX_hopeless
  dsimp only
  refine eg_refresh C L hcur (fun cur' b5 b6 b7 hc R => ?_)
  dsimp only
  refine pk_loop (σ := Unit) (fun k i _ => wX_hopeless_8 post (nI n) (nI m) (nI T) (-1) cur' a1 a2 a3 a4 b5 b6 b7 k (nI (eg_lost T N i)) (nI i)) (fun _ _ => True) n 0 () (by omega) trivial ?_ ?_
  · intro k _ _
    exact pk_le n n (fun _ => H cur' b5 b6 b7 hc R) (fun z => absurd z (by omega))
  · intro k i _ hi _ hw
    have t : wX_hopeless_8 post (nI n) (nI m) (nI T) (-1) cur' a1 a2 a3 a4 b5 b6 b7 k (nI (eg_lost T N i + (if N i = T then 1 else 0))) (nI (i + 1)) := hw () trivial
    refine pk_le n i (fun z => absurd z (by omega)) (fun _ => ⟨pk_in i 6 (by omega), ?_⟩)
    have hN := L.1 i hi
    rw [nI_clamp (show i < 2 ^ 31 by omega), R i hi]
    refine pk_eq (N i) T (fun z => nm_r (nI_1 _) (nm_r (nI_1 i) ?_)) (fun z => nm_r (Int32.add_zero _) (nm_r (nI_1 i) ?_))
    · rw [if_pos z] at t
      exact t
    · rw [if_neg z] at t
      exact t
theorem eg_greatest {post : Int32 → St1 → Prop} {n m T : Nat} {cur : Int32} {a1 a2 a3 a4 a5 a6 a7 : Nat → Int32} {N : Nat → Nat}
    (C : eg_C n m T a1 a2 a3 a4) (L : eg_L n m T a1 a2 a3 a4 N) (hcur : ¬ cur = 0 → eg_R n N a5)
    (H : ∀ cur' b5 b6 b7, ¬ cur' = 0 → eg_R n N b5 → post (nI (eg_most T N n)) (nI n, nI m, nI T, -1, cur', a1, a2, a3, a4, b5, b6, b7)) :
    wpX_greatest post (nI n, nI m, nI T, -1, cur, a1, a2, a3, a4, a5, a6, a7) := by
  have C' := C
  obtain ⟨h2, h6, h14, hT, c1, c2, c3, c4, cd⟩ := C'
  unfold wpX_greatest
  dsimp only
  refine eg_refresh C L hcur (fun cur' b5 b6 b7 hc R => ?_)
  dsimp only
  refine pk_loop (σ := Unit) (fun k i _ => wX_greatest_8 post (nI n) (nI m) (nI T) (-1) cur' a1 a2 a3 a4 b5 b6 b7 k (nI (eg_most T N i)) (nI i)) (fun _ _ => True) n 0 () (by omega) trivial ?_ ?_
  · intro k _ _
    exact pk_le n n (fun _ => H cur' b5 b6 b7 hc R) (fun z => absurd z (by omega))
  · intro k i _ hi _ hw
    have t : wX_greatest_8 post (nI n) (nI m) (nI T) (-1) cur' a1 a2 a3 a4 b5 b6 b7 k (nI (eg_most T N (i + 1))) (nI (i + 1)) := hw () trivial
    rw [eg_most_s] at t
    refine pk_le n i (fun z => absurd z (by omega)) (fun _ => ⟨pk_in i 6 (by omega), ?_⟩)
    have hN := L.1 i hi
    have hmo := eg_most_le T N i
    rw [nI_clamp (show i < 2 ^ 31 by omega), R i hi]
    refine pk_le T (N i) (fun z => nm_r (nI_1 i) ?_) (fun z => ⟨pk_in i 6 (by omega), pk_le (N i) (eg_most T N i) (fun y => nm_r (nI_1 i) ?_) (fun y => ⟨pk_in i 6 (by omega), nm_e (nm_r (nI_1 i) ?_)⟩)⟩)
    · rw [if_pos z] at t
      exact t
    · rw [if_neg (by omega), if_pos y] at t
      exact t
    · rw [if_neg (by omega), if_neg (by omega)] at t
      exact t
theorem eg_safeW {post : Int32 → St1 → Prop} {n m T : Nat} {cur cr : Int32} {a1 a2 a3 a4 a5 a6 a7 : Nat → Int32} {N : Nat → Nat}
    (C : eg_C n m T a1 a2 a3 a4) (L : eg_L n m T a1 a2 a3 a4 N) (hcur : ¬ cur = 0 → eg_R n N a5)
    (H : ∀ cur' b5 b6 b7, ¬ cur' = 0 → eg_R n N b5 → post (eg_safe cr T N n) (nI n, nI m, nI T, -1, cur', a1, a2, a3, a4, b5, b6, b7)) :
    wpX_safe post (nI n, nI m, nI T, -1, cur, a1, a2, a3, a4, a5, a6, a7) cr := by
  have C' := C
  obtain ⟨h2, h6, h14, hT, c1, c2, c3, c4, cd⟩ := C'
  unfold wpX_safe
  dsimp only
  refine eg_refresh C L hcur (fun cur' b5 b6 b7 hc R => ?_)
  dsimp only
  refine pk_loop (σ := Unit) (fun k i _ => wX_safe_8 post cr (nI n) (nI m) (nI T) (-1) cur' a1 a2 a3 a4 b5 b6 b7 k (eg_safe cr T N i) (nI i)) (fun _ _ => True) n 0 () (by omega) trivial ?_ ?_
  · intro k _ _
    exact pk_le n n (fun _ => H cur' b5 b6 b7 hc R) (fun z => absurd z (by omega))
  · intro k i _ hi _ hw
    have t : wX_safe_8 post cr (nI n) (nI m) (nI T) (-1) cur' a1 a2 a3 a4 b5 b6 b7 k (eg_safe cr T N (i + 1)) (nI (i + 1)) := hw () trivial
    rw [eg_safe_s] at t
    refine pk_le n i (fun z => absurd z (by omega)) (fun _ => ⟨pk_in i 6 (by omega), ?_⟩)
    have hN := L.1 i hi
    rw [nI_clamp (show i < 2 ^ 31 by omega), R i hi]
    refine pk_le T (N i) (fun z => nm_r (nI_1 i) ?_) (fun z => ⟨pk_in i 6 (by omega), br_c (fun y => nm_r (nI_1 i) ?_) (fun y => nm_e (nm_r (nI_1 i) ?_))⟩)
    · rw [if_pos z] at t
      exact t
    · rw [if_neg (by omega), if_pos y] at t
      exact t
    · rw [if_neg (by omega), if_neg y] at t
      exact t
/-- a good edge -/
def eg_good (T : Nat) (a1 a2 a3 a4 : Nat → Int32) (N : Nat → Nat) (e : Nat) : Prop :=
  (N (eg_t a1 e) = T ∧ a4 (eg_t a1 e) = 1 ∧ N (eg_t a2 e) = T) ∨ (¬ N (eg_t a1 e) = T ∧ eg_ask T (N (eg_t a2 e)) (eg_g a3 e) = N (eg_t a1 e) ∧ N (eg_t a2 e) < T)
theorem eg_isGood {post : Int32 → Prop} {n m T e : Nat} {sk cur : Int32} {a1 a2 a3 a4 a5 a6 a7 : Nat → Int32} {N : Nat → Nat} (C : eg_C n m T a1 a2 a3 a4) (hN : ∀ v, v < n → N v ≤ T) (R : eg_R n N a5) (he : e < m)
    (h1 : eg_good T a1 a2 a3 a4 N e → post 1) (h0 : ¬ eg_good T a1 a2 a3 a4 N e → post 0) : wpX_isGood post (nI n, nI m, nI T, sk, cur, a1, a2, a3, a4, a5, a6, a7) (nI e) := by
  have C' := C
  obtain ⟨h2, h6, h14, hT, c1, c2, c3, c4, cd⟩ := C'
  have l1 := (eg_vt (c1 e he) (by omega)).2
  have l2 := (eg_vt (c2 e he) (by omega)).2
  have w1 : vp_in (a1 e) 6 := eg_vw (c1 e he) h6
  have w2 : vp_in (a2 e) 6 := eg_vw (c2 e he) h6
  have x1 : a5 (a1 e).toNatClampNeg = nI (N (eg_t a1 e)) := R _ l1
  have x2 : a5 (a2 e).toNatClampNeg = nI (N (eg_t a2 e)) := R _ l2
  have n1 : N (eg_t a1 e) ≤ T := hN _ l1
  have n2 : N (eg_t a2 e) ≤ T := hN _ l2
  have ha := eg_ask_le T (N (eg_t a2 e)) (eg_g a3 e)
  unfold wpX_isGood
  dsimp only
  rw [nI_clamp (show e < 2 ^ 31 by omega)]
  refine ⟨pk_in e 14 (by omega), nm_e ⟨pk_in e 14 (by omega), nm_e ⟨w1, ?_⟩⟩⟩
  refine pk_eq (N (eg_t a1 e)) T (fun z => ⟨w1, ?_⟩) (fun z => eg_asked C R hN he ⟨w1, ?_⟩) x1 rfl
  · by_cases ho : a4 (a1 e).toNatClampNeg = 1
    · refine br_t ho ⟨w2, pk_eq (N (eg_t a2 e)) T (fun y => h1 (Or.inl ⟨z, ho, y⟩)) (fun y => h0 ?_) x2 rfl⟩
      rintro (g | g)
      · exact y g.2.2
      · exact g.1 z
    · refine br_f ho (h0 ?_)
      rintro (g | g)
      · exact ho g.2.1
      · exact g.1 z
  · refine pk_eq (eg_ask T (N (eg_t a2 e)) (eg_g a3 e)) (N (eg_t a1 e)) (fun y => ⟨w2, pk_le T (N (eg_t a2 e)) (fun x => h0 ?_) (fun x => h1 (Or.inr ⟨z, y, x⟩)) rfl x2⟩) (fun y => h0 ?_) rfl x1
    · rintro (g | g)
      · exact z g.1
      · have := g.2.2
        omega
    · rintro (g | g)
      · exact z g.1
      · exact y g.2.1
/-- an edge that vertex v may take -/
def eg_may (T : Nat) (a1 a2 a3 a4 : Nat → Int32) (N : Nat → Nat) (v e : Nat) : Prop := a1 e = nI v ∧ eg_good T a1 a2 a3 a4 N e
theorem eg_choice {post : Int32 → St1 → Prop} {n m T v : Nat} {cur : Int32} {a1 a2 a3 a4 a5 a6 a7 : Nat → Int32} {N : Nat → Nat}
    (C : eg_C n m T a1 a2 a3 a4) (L : eg_L n m T a1 a2 a3 a4 N) (hcur : ¬ cur = 0 → eg_R n N a5) (hv : v < n)
    (H0 : ∀ cur' b5 b6 b7, ¬ cur' = 0 → eg_R n N b5 → (∀ e, e < m → ¬ eg_may T a1 a2 a3 a4 N v e) → post (-2) (nI n, nI m, nI T, -1, cur', a1, a2, a3, a4, b5, b6, b7))
    (H1 : ∀ cur' b5 b6 b7 e, ¬ cur' = 0 → eg_R n N b5 → e < m → eg_may T a1 a2 a3 a4 N v e → post (nI e) (nI n, nI m, nI T, -1, cur', a1, a2, a3, a4, b5, b6, b7)) :
    wpX_choice post (nI n, nI m, nI T, -1, cur, a1, a2, a3, a4, a5, a6, a7) (nI v) := by
  have C' := C
  obtain ⟨h2, h6, h14, hT, c1, c2, c3, c4, cd⟩ := C'
  unfold wpX_choice
  dsimp only
  refine eg_isV h6 hv (br_f (by decide) (eg_refresh C L hcur (fun cur' b5 b6 b7 hc R => ?_)))
  dsimp only
  refine pk_loop (σ := Unit) (fun k i _ => wX_choice_16 post (nI v) (nI n) (nI m) (nI T) (-1) cur' a1 a2 a3 a4 b5 b6 b7 k (nI i)) (fun i _ => ∀ e, e < i → ¬ eg_may T a1 a2 a3 a4 N v e) m 0 () (by omega) lt_0 ?_ ?_
  · intro k _ hI
    exact pk_le m m (fun _ => H0 cur' b5 b6 b7 hc R hI) (fun z => absurd z (by omega))
  · intro k i _ hi hI hw
    refine pk_le m i (fun z => absurd z (by omega)) (fun _ => ⟨pk_in i 14 (by omega), ?_⟩)
    rw [nI_clamp (show i < 2 ^ 31 by omega)]
    by_cases h1 : a1 i = nI v
    · refine br_t h1 (eg_isGood C L.1 R hi (fun g => ?_) (fun g => ?_))
      · exact br_f (by decide) (H1 cur' b5 b6 b7 i hc R hi ⟨h1, g⟩)
      · exact br_t rfl (nm_r (nI_1 i) (hw () (lt_s hI (fun z => g z.2))))
    · exact br_f h1 (nm_r (nI_1 i) (hw () (lt_s hI (fun z => h1 z.1))))
theorem eg_choices {post : Int32 → St1 → Prop} {n m T v : Nat} {cur : Int32} {a1 a2 a3 a4 a5 a6 a7 : Nat → Int32} {N : Nat → Nat}
    (C : eg_C n m T a1 a2 a3 a4) (L : eg_L n m T a1 a2 a3 a4 N) (hcur : ¬ cur = 0 → eg_R n N a5) (hv : v < n)
    (H : ∀ cur' b5 b6 b7 s, ¬ cur' = 0 → eg_R n N b5 → s ≤ 3 → (s = 0 ↔ ∀ e, e < m → ¬ eg_may T a1 a2 a3 a4 N v e) → post (nI s) (nI n, nI m, nI T, -1, cur', a1, a2, a3, a4, b5, b6, b7)) :
    wpX_choices post (nI n, nI m, nI T, -1, cur, a1, a2, a3, a4, a5, a6, a7) (nI v) := by
  have C' := C
  obtain ⟨h2, h6, h14, hT, c1, c2, c3, c4, cd⟩ := C'
  unfold wpX_choices
  dsimp only
  refine eg_isV h6 hv (br_f (by decide) (eg_refresh C L hcur (fun cur' b5 b6 b7 hc R => ?_)))
  dsimp only
  refine pk_loop (σ := Nat) (fun k i s => wX_choices_18 post (nI v) (nI n) (nI m) (nI T) (-1) cur' a1 a2 a3 a4 b5 b6 b7 k (nI s) (nI i)) (fun i s => s ≤ eg_deg a1 (nI v) i ∧ (s = 0 ↔ ∀ e, e < i → ¬ eg_may T a1 a2 a3 a4 N v e)) m 0 0 (by omega) ⟨Nat.le_refl 0, ⟨fun _ => lt_0, fun _ => rfl⟩⟩ ?_ ?_
  · intro k s hI
    exact pk_le m m (fun _ => H cur' b5 b6 b7 s hc R (Nat.le_trans hI.1 (cd (nI v))) hI.2) (fun z => absurd z (by omega))
  · intro k i s hi hI hw
    obtain ⟨i1, i2⟩ := hI
    have hd : eg_deg a1 (nI v) (i + 1) = eg_deg a1 (nI v) i + (if a1 i = nI v then 1 else 0) := rfl
    refine pk_le m i (fun z => absurd z (by omega)) (fun _ => ⟨pk_in i 14 (by omega), ?_⟩)
    rw [nI_clamp (show i < 2 ^ 31 by omega)]
    by_cases h1 : a1 i = nI v
    · rw [if_pos h1] at hd
      refine br_t h1 (eg_isGood C L.1 R hi (fun g => ?_) (fun g => ?_))
      · refine br_f (by decide) (nm_r (nI_1 s) (nm_r (nI_1 i) (hw (s + 1) ⟨by omega, ⟨fun z => absurd z (by omega), fun z => absurd ⟨h1, g⟩ (z i (by omega))⟩⟩)))
      · refine br_t rfl (nm_r (Int32.add_zero _) (nm_r (nI_1 i) (hw s ⟨by omega, ⟨fun z => lt_s (i2.mp z) (fun y => g y.2), fun z => i2.mpr (fun e he => z e (by omega))⟩⟩)))
    · rw [if_neg h1] at hd
      refine br_f h1 (nm_r (Int32.add_zero _) (nm_r (nI_1 i) (hw s ⟨by omega, ⟨fun z => lt_s (i2.mp z) (fun y => h1 y.1), fun z => i2.mpr (fun e he => z e (by omega))⟩⟩)))
theorem eg_ask_inv {T x y : Nat} {g : Int} (hx : x < T) (hy : y < T) (h : eg_ask T x g = y) : (x : Int) ≤ (y : Int) + g := by
  unfold eg_ask at h
  rw [if_neg (by omega)] at h
  split at h
  · omega
  · split at h
    · omega
    · omega
theorem eg_addN {k : Nat} {y : Int32} (hk : k ≤ 1000) (h1 : -6 ≤ y.toInt) (h2 : y.toInt ≤ 6) (h3 : 0 ≤ (k : Int) + y.toInt) : nI k + y = nI ((k : Int) + y.toInt).toNat := by
  apply Int32.toInt_inj.mp
  rw [Int32.toInt_add, nI_toInt (by omega), nI_toInt (by omega), Int.bmod_eq_of_le (by omega) (by omega)]
  omega
theorem eg_storeT {post : Int32 → St1 → Prop} {n m T v t : Nat} {cur : Int32} {a1 a2 a3 a4 a5 a6 a7 : Nat → Int32} {N : Nat → Nat}
    (C : eg_C n m T a1 a2 a3 a4) (L : eg_L n m T a1 a2 a3 a4 N) (hcur : ¬ cur = 0 → eg_R n N a5) (hv : v < n) (hNv : N v < T) (ht : t ≤ 30)
    (H : ∀ cur' b5 b6 b7 s, (¬ cur' = 0 → eg_R n N b5) → s < 1000 → post (nI s) (nI n, nI m, nI T, -1, cur', a1, a2, a3, a4, b5, b6, b7)) :
    wpX_store post (nI n, nI m, nI T, -1, cur, a1, a2, a3, a4, a5, a6, a7) (nI v) (nI (128 * t + N v)) := by
  have C' := C
  obtain ⟨h2, h6, h14, hT, c1, c2, c3, c4, cd⟩ := C'
  unfold wpX_store
  dsimp only
  have e1 : nI (128 * t + N v) >>> ((7 : Int32) &&& 31) = nI t := by
    rw [pk_shrN (by omega) _ 7 (by decide)]
    exact congrArg nI (by omega)
  have e2 : nI (128 * t + N v) &&& 127 = nI (N v) := by
    rw [pk_andN (by omega) 7 (by decide)]
    exact congrArg nI (by omega)
  refine eg_isV h6 hv (br_f (by decide) (nm_r e1 (nm_r e2 (br_f (nI_pos (by omega)) (pk_lt 100 (N v) (fun z => absurd z (by omega)) (fun _ => pk_le t 30 (fun _ => ?_) (fun z => absurd z (by omega))))))))
  refine pk_loop (σ := Nat × Nat × Int32 × (Nat → Int32) × (Nat → Int32) × (Nat → Int32)) (fun k i s => wX_store_54 post (nI t) k (nI s.1) (nI s.2.1) (nI i) (nI n) (nI m) (nI T) (-1) s.2.2.1 a1 a2 a3 a4 s.2.2.2.1 s.2.2.2.2.1 s.2.2.2.2.2)
    (fun i s => s.1 < n ∧ N s.1 < T ∧ N s.1 ≤ s.2.1 ∧ s.2.1 ≤ 31 + 6 * i ∧ (¬ s.2.2.1 = 0 → eg_R n N s.2.2.2.1)) t 0 (v, N v, cur, a5, a6, a7) (by omega) ⟨hv, hNv, Nat.le_refl _, by dsimp only; omega, hcur⟩ ?_ ?_
  · intro k s hI
    obtain ⟨u, w, cu, b5, b6, b7⟩ := s
    obtain ⟨i1, i2, i3, i4, i5⟩ := hI
    dsimp only at i1 i2 i3 i4 i5
    exact pk_le t t (fun _ => H cu b5 b6 b7 w i5 (by omega)) (fun z => absurd z (by omega))
  · intro k i s hi hI hw
    obtain ⟨u, w, cu, b5, b6, b7⟩ := s
    obtain ⟨i1, i2, i3, i4, i5⟩ := hI
    dsimp only at i1 i2 i3 i4 i5
    refine pk_le t i (fun z => absurd z (by omega)) (fun _ => eg_choice C L i5 i1 (fun cu' d5 d6 d7 hc R _ => ?_) (fun cu' d5 d6 d7 e hc R he hm => ?_))
    · exact br_f (by decide) (H cu' d5 d6 d7 w (fun _ => R) (by omega))
    · obtain ⟨m1, m2⟩ := hm
      have et : eg_t a1 e = u := by unfold eg_t; rw [m1]; exact nI_clamp (by omega)
      have hg := c3 e he
      have l2 := eg_vt (c2 e he) (by omega)
      have hlow : N (eg_t a2 e) < T ∧ (N (eg_t a2 e) : Int) ≤ (N u : Int) + (a3 e).toInt := by
        rcases m2 with g | g
        · exact absurd g.1 (by rw [et]; omega)
        · rw [et] at g
          exact ⟨g.2.2, eg_ask_inv g.2.2 i2 g.2.1⟩
      refine br_t (nI_pos' (by omega)) ⟨pk_in e 14 (by omega), ?_⟩
      rw [nI_clamp (show e < 2 ^ 31 by omega)]
      refine nm_r (eg_addN (k := w) (by omega) hg.1 hg.2 (by omega)) ⟨pk_in e 14 (by omega), nm_r l2.1 (nm_r (nI_1 i) ?_)⟩
      exact hw ((a2 e).toNatClampNeg, ((w : Int) + (a3 e).toInt).toNat, cu', d5, d6, d7) ⟨l2.2, hlow.1, by have := hlow.2; dsimp only; unfold eg_t at this; omega, by dsimp only; omega, fun _ => R⟩
theorem eg_store0 {post : Int32 → St1 → Prop} {n m T v c : Nat} {cur : Int32} {a1 a2 a3 a4 a5 a6 a7 : Nat → Int32} (C : eg_C n m T a1 a2 a3 a4) (hv : v < n) (hc : c < 64)
    (H : post (nI c) (nI n, nI m, nI T, -1, cur, a1, a2, a3, a4, a5, a6, a7)) : wpX_store post (nI n, nI m, nI T, -1, cur, a1, a2, a3, a4, a5, a6, a7) (nI v) (nI c) := by
  obtain ⟨h2, h6, h14, hT, c1, c2, c3, c4, cd⟩ := C
  unfold wpX_store
  dsimp only
  have e1 : nI c >>> ((7 : Int32) &&& 31) = nI 0 := by
    rw [pk_shrN (by omega) _ 7 (by decide)]
    exact congrArg nI (by omega)
  have e2 : nI c &&& 127 = nI c := by
    rw [pk_andN (by omega) 7 (by decide)]
    exact congrArg nI (by omega)
  refine eg_isV h6 hv (br_f (by decide) (nm_r e1 (nm_r e2 (br_f (nI_pos (by omega)) (pk_lt 100 c (fun z => absurd z (by omega)) (fun _ => pk_le 0 30 (fun _ => ⟨1, ?_⟩) (fun z => absurd z (by omega))))))))
  exact pk_le 0 0 (fun _ => H) (fun z => absurd z (by omega))
theorem eg_store1 {post : Int32 → St1 → Prop} {n m T : Nat} {cur p : Int32} {a1 a2 a3 a4 a5 a6 a7 : Nat → Int32} (C : eg_C n m T a1 a2 a3 a4)
    (H : post (-1000) (nI n, nI m, nI T, -1, cur, a1, a2, a3, a4, a5, a6, a7)) : wpX_store post (nI n, nI m, nI T, -1, cur, a1, a2, a3, a4, a5, a6, a7) (nI n) p := by
  obtain ⟨h2, h6, h14, hT, c1, c2, c3, c4, cd⟩ := C
  unfold wpX_store
  dsimp only
  exact eg_isV0 h6 rfl (br_t rfl H)
theorem eg_store2 {post : Int32 → St1 → Prop} {n m T : Nat} {cur : Int32} {a1 a2 a3 a4 a5 a6 a7 : Nat → Int32} (C : eg_C n m T a1 a2 a3 a4)
    (H : post (-2000) (nI n, nI m, nI T, -1, cur, a1, a2, a3, a4, a5, a6, a7)) : wpX_store post (nI n, nI m, nI T, -1, cur, a1, a2, a3, a4, a5, a6, a7) 0 (-1) := by
  obtain ⟨h2, h6, h14, hT, c1, c2, c3, c4, cd⟩ := C
  unfold wpX_store
  dsimp only
  exact eg_isV (v := 0) h6 (by omega) (br_f (by decide) (nm_e (nm_e (br_t (by decide) H))))
end
section
theorem eg_isVx {post : Int32 → Prop} {n : Nat} {x f1 f2 f3 f4 : Int32} {a1 a2 a3 a4 a5 a6 a7 : Nat → Int32} (hn : n ≤ 6) (h0 : post 0) (h1 : ∀ v, v < n → x = nI v → post 1) : wpX_isVertex post (nI n, f1, f2, f3, f4, a1, a2, a3, a4, a5, a6, a7) x := by
  refine br_c (fun _ => h0) (fun hx => br_c (fun _ => h0) (fun hy => ?_))
  obtain ⟨j, hj, e⟩ := nI_of hx
  rw [e, nI_leI (by omega) hj] at hy
  exact h1 j (by omega) e
theorem eg_isEx {post : Int32 → Prop} {m : Nat} {x f0 f2 f3 f4 : Int32} {a1 a2 a3 a4 a5 a6 a7 : Nat → Int32} (hm : m ≤ 14) (h0 : post 0) (h1 : ∀ e, e < m → x = nI e → post 1) : wpX_isEdge post (f0, nI m, f2, f3, f4, a1, a2, a3, a4, a5, a6, a7) x := by
  refine br_c (fun _ => h0) (fun hx => br_c (fun _ => h0) (fun hy => ?_))
  obtain ⟨j, hj, e⟩ := nI_of hx
  rw [e, nI_leI (by omega) hj] at hy
  exact h1 j (by omega) e
theorem eg_give {post : Int32 → St1 → Prop} {n m T : Nat} {cur p0 p1 : Int32} {a1 a2 a3 a4 a5 a6 a7 : Nat → Int32} (C : eg_C n m T a1 a2 a3 a4)
    (H0 : ∀ r, post r (nI n, nI m, nI T, -1, cur, a1, a2, a3, a4, a5, a6, a7))
    (H1 : ∀ r b4, eg_C n m T a1 a2 a3 b4 → post r (nI n, nI m, nI T, -1, 0, a1, a2, a3, b4, a5, a6, a7)) :
    wpX_give post (nI n, nI m, nI T, -1, cur, a1, a2, a3, a4, a5, a6, a7) p0 p1 := by
  have h6 := C.2.1
  unfold wpX_give
  dsimp only
  refine eg_isVx h6 (br_t rfl (H0 _)) (fun v hv ev => br_f (by decide) ?_)
  subst ev
  have key : (p1 = 0 ∨ p1 = 1) → wX_give_22 post (nI v) p1 (nI n) (nI m) (nI T) (-1) cur a1 a2 a3 a4 a5 a6 a7 := by
    intro hp
    unfold wX_give_22
    rw [nI_clamp (show v < 2 ^ 31 by omega)]
    exact ⟨pk_in v 6 (by omega), nm_e ⟨pk_in v 6 (by omega), nm_e (H1 _ _ (eg_C_own C hp))⟩⟩
  exact br_c (fun e => key (Or.inl e)) (fun _ => br_c (fun e => key (Or.inr e)) (fun _ => H0 _))
theorem eg_lo {x : Int32} (h : ¬ x < -6) : -6 ≤ x.toInt := by
  rw [Int32.lt_iff_toInt_lt, show (-6 : Int32).toInt = -6 from by decide] at h
  omega
theorem eg_hi {x : Int32} (h : x ≤ 6) : x.toInt ≤ 6 := by
  rw [Int32.le_iff_toInt_le, show (6 : Int32).toInt = 6 from by decide] at h
  exact h
theorem eg_set {post : Int32 → St1 → Prop} {n m T : Nat} {cur p0 p1 : Int32} {a1 a2 a3 a4 a5 a6 a7 : Nat → Int32} (C : eg_C n m T a1 a2 a3 a4)
    (H0 : ∀ r, post r (nI n, nI m, nI T, -1, cur, a1, a2, a3, a4, a5, a6, a7))
    (H1 : ∀ r b3, eg_C n m T a1 a2 b3 a4 → post r (nI n, nI m, nI T, -1, 0, a1, a2, b3, a4, a5, a6, a7)) :
    wpX_set post (nI n, nI m, nI T, -1, cur, a1, a2, a3, a4, a5, a6, a7) p0 p1 := by
  obtain ⟨h2, h6, h14, hT, c1, c2, c3, c4, cd⟩ := C
  unfold wpX_set
  dsimp only
  refine eg_isEx h14 (br_t rfl (H0 _)) (fun e he ev => br_f (by decide) ?_)
  subst ev
  refine br_c (fun _ => H0 _) (fun hl => br_c (fun hh => ⟨pk_in e 14 (by omega), ?_⟩) (fun _ => H0 _))
  rw [nI_clamp (show e < 2 ^ 31 by omega)]
  refine nm_e ⟨pk_in e 14 (by omega), nm_e (H1 _ _ ⟨h2, h6, h14, hT, c1, c2, fun k hk => ?_, c4, cd⟩)⟩
  by_cases ek : k = e
  · rw [ek, pk_us]
    exact ⟨eg_lo hl, eg_hi hh⟩
  · rw [pk_un ek]
    exact c3 k hk
/-- the places behind d moved one down, as far as place i -/
def eg_shf (a : Nat → Int32) (d i : Nat) : Nat → Int32 := fun e => if d ≤ e ∧ e + 1 < i then a (e + 1) else a e
theorem eg_shf_0 (a : Nat → Int32) (d : Nat) : eg_shf a d (d + 1) = a := by
  funext e
  exact if_neg (by omega)
theorem eg_shf_at (a : Nat → Int32) (d i : Nat) : eg_shf a d i i = a i := if_neg (by omega)
theorem eg_shf_s {a : Nat → Int32} {d i : Nat} (h : d < i) : upd (eg_shf a d i) (i - 1) (a i) = eg_shf a d (i + 1) := by
  funext e
  by_cases ee : e = i - 1
  · rw [ee, pk_us]
    unfold eg_shf
    rw [if_pos (by omega), show i - 1 + 1 = i by omega]
  · rw [pk_un ee]
    unfold eg_shf
    by_cases c : d ≤ e ∧ e + 1 < i
    · rw [if_pos c, if_pos (by omega)]
    · rw [if_neg c, if_neg (by omega)]
theorem eg_deg_s (a : Nat → Int32) (u : Int32) (k : Nat) : eg_deg a u (k + 1) = eg_deg a u k + (if a k = u then 1 else 0) := rfl
theorem eg_deg_shf {a : Nat → Int32} {d m : Nat} {u : Int32} (k : Nat) (hk : k < m) : (k ≤ d → eg_deg (eg_shf a d m) u k = eg_deg a u k) ∧ (d ≤ k → eg_deg (eg_shf a d m) u k + (if a d = u then 1 else 0) = eg_deg a u (k + 1)) := by
  induction k with
  | zero =>
    refine ⟨fun _ => rfl, fun h => ?_⟩
    rw [show d = 0 by omega]
    rfl
  | succ k ih =>
    obtain ⟨i1, i2⟩ := ih (by omega)
    have A : k + 1 ≤ d → eg_deg (eg_shf a d m) u (k + 1) = eg_deg a u (k + 1) := by
      intro h
      rw [eg_deg_s, eg_deg_s, i1 (by omega), show eg_shf a d m k = a k from if_neg (by omega)]
    refine ⟨A, fun h => ?_⟩
    by_cases e : k + 1 = d
    · rw [A (by omega), eg_deg_s a u (k + 1), e]
    · have j := i2 (by omega)
      rw [eg_deg_s (eg_shf a d m) u k, eg_deg_s a u (k + 1), show eg_shf a d m k = a (k + 1) from if_pos (by omega)]
      omega
theorem eg_C_cut {n m T d : Nat} {a1 a2 a3 a4 : Nat → Int32} (C : eg_C n m T a1 a2 a3 a4) (hd : d < m) : eg_C n (m - 1) T (eg_shf a1 d m) (eg_shf a2 d m) (eg_shf a3 d m) a4 := by
  obtain ⟨h2, h6, h14, hT, c1, c2, c3, c4, cd⟩ := C
  have at1 : ∀ (a : Nat → Int32) (P : Int32 → Prop), (∀ e, e < m → P (a e)) → ∀ e, e < m - 1 → P (eg_shf a d m e) := by
    intro a P h e he
    unfold eg_shf
    by_cases c : d ≤ e ∧ e + 1 < m
    · rw [if_pos c]
      exact h _ (by omega)
    · rw [if_neg c]
      exact h _ (by omega)
  refine ⟨h2, h6, by omega, hT, at1 a1 (fun x => vp_in x n) c1, at1 a2 (fun x => vp_in x n) c2, at1 a3 (fun x => -6 ≤ x.toInt ∧ x.toInt ≤ 6) c3, c4, fun u => ?_⟩
  have k := (eg_deg_shf (a := a1) (d := d) (m := m) (u := u) (m - 1) (by omega)).2 (by omega)
  rw [show m - 1 + 1 = m by omega] at k
  have := cd u
  omega
theorem eg_cut {post : Int32 → St1 → Prop} {n m T : Nat} {cur p0 : Int32} {a1 a2 a3 a4 a5 a6 a7 : Nat → Int32} (C : eg_C n m T a1 a2 a3 a4)
    (H0 : ∀ r, post r (nI n, nI m, nI T, -1, cur, a1, a2, a3, a4, a5, a6, a7))
    (H1 : ∀ r m' b1 b2 b3, eg_C n m' T b1 b2 b3 a4 → post r (nI n, nI m', nI T, -1, 0, b1, b2, b3, a4, a5, a6, a7)) :
    wpX_cut post (nI n, nI m, nI T, -1, cur, a1, a2, a3, a4, a5, a6, a7) p0 := by
  have C' := C
  obtain ⟨h2, h6, h14, hT, c1, c2, c3, c4, cd⟩ := C'
  unfold wpX_cut
  dsimp only
  refine eg_isEx h14 (br_t rfl (H0 _)) (fun d hd ev => br_f (by decide) ?_)
  subst ev
  refine nm_r (nI_1 d) ?_
  have t : ∃ k, wX_cut_14 post (nI n) (nI m) (nI T) (-1) cur k (nI (d + 1)) (eg_shf a1 d (d + 1)) (eg_shf a2 d (d + 1)) (eg_shf a3 d (d + 1)) a4 a5 a6 a7 := by
    refine pk_loop (σ := Unit) (fun k i _ => wX_cut_14 post (nI n) (nI m) (nI T) (-1) cur k (nI i) (eg_shf a1 d i) (eg_shf a2 d i) (eg_shf a3 d i) a4 a5 a6 a7) (fun i _ => d < i) m (d + 1) () (by omega) (by omega) ?_ ?_
    · intro k _ _
      exact pk_le m m (fun _ => nm_r (e' := nI (m - 1)) (pk_sub (b := 1) (by omega)) (H1 _ (m - 1) _ _ _ (eg_C_cut C hd))) (fun z => absurd z (by omega))
    · intro k i _ hi hI hw
      have es : nI i - 1 = nI (i - 1) := pk_sub (b := 1) (by omega)
      refine pk_le m i (fun z => absurd z (by omega)) (fun _ => ⟨pk_in i 14 (by omega), ?_⟩)
      rw [es, nI_clamp (show i < 2 ^ 31 by omega), nI_clamp (show i - 1 < 2 ^ 31 by omega), eg_shf_at, eg_shf_at, eg_shf_at]
      have p14 := pk_in (x := nI i) i 14 (by omega)
      have q14 := pk_in (x := nI (i - 1)) (i - 1) 14 (by omega)
      exact ⟨q14, nm_r (eg_shf_s hI) ⟨p14, q14, nm_r (eg_shf_s hI) ⟨p14, q14, nm_r (eg_shf_s hI) (nm_r (nI_1 i) (hw () (by omega)))⟩⟩⟩
  rw [eg_shf_0, eg_shf_0, eg_shf_0] at t
  exact t
theorem eg_degree {post : Int32 → Prop} {n m T : Nat} {f0 f2 f3 f4 u : Int32} {a1 a2 a3 a4 a5 a6 a7 : Nat → Int32} (h14 : m ≤ 14) (hp : post (nI (eg_deg a1 u m))) : wpX_degree post (f0, nI m, f2, f3, f4, a1, a2, a3, a4, a5, a6, a7) u := by
  unfold wpX_degree
  dsimp only
  refine pk_loop (σ := Unit) (fun k i _ => wX_degree_4 post u f0 (nI m) f2 f3 f4 a1 a2 a3 a4 a5 a6 a7 k (nI (eg_deg a1 u i)) (nI i)) (fun _ _ => True) m 0 () (by omega) trivial ?_ ?_
  · intro k _ _
    exact pk_le m m (fun _ => hp) (fun z => absurd z (by omega))
  · intro k i _ hi _ hw
    have t : wX_degree_4 post u f0 (nI m) f2 f3 f4 a1 a2 a3 a4 a5 a6 a7 k (nI (eg_deg a1 u i + (if a1 i = u then 1 else 0))) (nI (i + 1)) := hw () trivial
    refine pk_le m i (fun z => absurd z (by omega)) (fun _ => ⟨pk_in i 14 (by omega), ?_⟩)
    rw [nI_clamp (show i < 2 ^ 31 by omega)]
    refine br_c (fun z => nm_r (nI_1 _) (nm_r (nI_1 i) ?_)) (fun z => nm_r (Int32.add_zero _) (nm_r (nI_1 i) ?_))
    · rw [if_pos z] at t
      exact t
    · rw [if_neg z] at t
      exact t
theorem eg_deg_out {a : Nat → Int32} {w : Nat} {x u : Int32} (k : Nat) (h : k ≤ w) : eg_deg (upd a w x) u k = eg_deg a u k := by
  induction k with
  | zero => rfl
  | succ k ih => rw [eg_deg_s, eg_deg_s, ih (by omega), pk_un (by omega)]
theorem eg_C_link {n m T u w : Nat} {g : Int32} {a1 a2 a3 a4 : Nat → Int32} (C : eg_C n m T a1 a2 a3 a4) (hm : m < 14) (hu : u < n) (hw : w < n) (hg : -6 ≤ g.toInt ∧ g.toInt ≤ 6) (hd : eg_deg a1 (nI u) m ≤ 2) : eg_C n (m + 1) T (upd a1 m (nI u)) (upd a2 m (nI w)) (upd a3 m g) a4 := by
  obtain ⟨h2, h6, h14, hT, c1, c2, c3, c4, cd⟩ := C
  have at1 : ∀ (a : Nat → Int32) (x : Int32) (P : Int32 → Prop), P x → (∀ e, e < m → P (a e)) → ∀ e, e < m + 1 → P (upd a m x e) := by
    intro a x P hx h e he
    by_cases c : e = m
    · rw [c, pk_us]
      exact hx
    · rw [pk_un c]
      exact h e (by omega)
  refine ⟨h2, h6, by omega, hT, at1 a1 _ (fun x => vp_in x n) (pk_in u n hu) c1, at1 a2 _ (fun x => vp_in x n) (pk_in w n hw) c2, at1 a3 _ (fun x => -6 ≤ x.toInt ∧ x.toInt ≤ 6) hg c3, c4, fun x => ?_⟩
  rw [eg_deg_s, eg_deg_out m (Nat.le_refl m), pk_us]
  by_cases c : nI u = x
  · rw [if_pos c, ← c]
    omega
  · rw [if_neg c]
    exact cd x
theorem eg_link {post : Int32 → St1 → Prop} {n m T : Nat} {cur p0 p1 p2 : Int32} {a1 a2 a3 a4 a5 a6 a7 : Nat → Int32} (C : eg_C n m T a1 a2 a3 a4)
    (H0 : ∀ r, post r (nI n, nI m, nI T, -1, cur, a1, a2, a3, a4, a5, a6, a7))
    (H1 : ∀ r m' b1 b2 b3, eg_C n m' T b1 b2 b3 a4 → post r (nI n, nI m', nI T, -1, 0, b1, b2, b3, a4, a5, a6, a7)) :
    wpX_link post (nI n, nI m, nI T, -1, cur, a1, a2, a3, a4, a5, a6, a7) p0 p1 p2 := by
  have C' := C
  obtain ⟨h2, h6, h14, hT, c1, c2, c3, c4, cd⟩ := C'
  unfold wpX_link
  dsimp only
  refine eg_isVx h6 (br_t rfl (H0 _)) (fun u hu eu => br_f (by decide) (eg_isVx h6 (br_t rfl (H0 _)) (fun w hw ew => br_f (by decide) ?_)))
  subst eu
  subst ew
  refine br_c (fun _ => H0 _) (fun hl => br_c (fun hh => pk_eq m 14 (fun _ => H0 _) (fun hm => eg_degree (n := n) (T := T) h14 ?_)) (fun _ => H0 _))
  have hd := cd (nI u)
  refine pk_eq (eg_deg a1 (nI u) m) 3 (fun _ => H0 _) (fun h3 => ⟨pk_in m 14 (by omega), ?_⟩)
  rw [nI_clamp (show m < 2 ^ 31 by omega)]
  refine nm_e ⟨pk_in m 14 (by omega), nm_e ⟨pk_in m 14 (by omega), nm_e (nm_r (nI_1 m) ?_)⟩⟩
  exact H1 _ (m + 1) _ _ _ (eg_C_link C (by omega) hu hw ⟨eg_lo hl, eg_hi hh⟩ (by omega))
theorem eg_call {post : St1 → Prop} {n m T : Nat} {cur p1 p2 p3 p4 : Int32} {a1 a2 a3 a4 a5 a6 a7 : Nat → Int32} (C : eg_C n m T a1 a2 a3 a4)
    (H0 : post (nI n, nI m, nI T, -1, cur, a1, a2, a3, a4, a5, a6, a7))
    (H1 : ∀ m' b1 b2 b3 b4, eg_C n m' T b1 b2 b3 b4 → post (nI n, nI m', nI T, -1, 0, b1, b2, b3, b4, a5, a6, a7)) :
    wpL_call post (nI n, nI m, nI T, -1, cur, a1, a2, a3, a4, a5, a6, a7) p1 p2 p3 p4 := by
  unfold wpL_call
  dsimp only
  refine br_c (fun _ => br_c (fun _ => ?_) (fun _ => br_c (fun _ => ?_) (fun _ => ?_))) (fun _ => ?_)
  · exact eg_cut C (fun _ => H0) (fun _ m' b1 b2 b3 h => H1 m' b1 b2 b3 a4 h)
  · exact eg_give C (fun _ => H0) (fun _ b4 h => H1 m a1 a2 a3 b4 h)
  · exact eg_set C (fun _ => H0) (fun _ b3 h => H1 m a1 a2 b3 a4 h)
  · exact eg_link C (fun _ => H0) (fun _ m' b1 b2 b3 h => H1 m' b1 b2 b3 a4 h)
theorem eg_89 {post : St1 → Prop} {mc ms kc ks n : Nat} {b1 b2 b3 b4 b5 b6 b7 : Nat → Int32} (hn : 2 ≤ n) (H : post (nI n, 0, nI (6 * (n - 1) + 1), -1, 0, b1, b2, b3, b4, b5, b6, b7)) : ∀ f2 f3, wX_init_89 post mc ms kc ks (nI n) 0 f2 f3 0 b1 b2 b3 b4 b5 b6 b7 := by
  intro f2 f3
  have e : (6 : Int32) * (nI n - 1) + 1 = nI (6 * (n - 1) + 1) := by
    rw [show nI n - 1 = nI (n - 1) from pk_sub (b := 1) (by omega), show (6 : Int32) * nI (n - 1) = nI (6 * (n - 1)) from pk_mul 6 (n - 1), nI_1]
  exact nm_r e H
theorem eg_init {post : St1 → Prop} {p0 : Int32} (H : ∀ n, 2 ≤ n → n ≤ 6 → post (nI n, 0, nI (6 * (n - 1) + 1), -1, 0, (fun _ => 0), (fun _ => 0), (fun _ => 0), (fun _ => 0), (fun _ => 0), (fun _ => 0), (fun _ => 0))) : wpX_init post 7 68 (0, 0, 0, 0, 0) p0 := by
  unfold wpX_init
  dsimp only
  refine ⟨by omega, by omega, by omega, by omega, by omega, by omega, by omega, by omega, by omega, by omega, by omega, by omega, by omega, by omega, br_c (fun h2 => br_c (fun h6 => ?_) (fun _ => ?_)) (fun _ => br_t (by decide) ?_)⟩
  · rw [Int32.le_iff_toInt_le, show (2 : Int32).toInt = 2 from by decide] at h2
    obtain ⟨j, hj, e⟩ := nI_of2 (M := 6) (n := 6) (by decide) (by rw [Int32.lt_iff_toInt_lt, eg_i0]; omega) h6
    rw [e, nI_toInt (by omega)] at h2
    rw [e]
    exact eg_89 (by omega) (H j (by omega) hj) _ _
  · exact eg_89 (n := 6) (by omega) (H 6 (by omega) (by omega)) _ _
  · exact eg_89 (n := 2) (by omega) (H 2 (by omega) (by omega)) _ _
end
section
theorem eg_222 {post : Int32 → St1 → Prop} {J : Int32 → Int32 → Int32 → Int32 → Int32 → Int32 → Int32 → Int32 → Int32 → (Nat → Int32) → (Nat → Int32) → (Nat → Int32) → (Nat → Int32) → (Nat → Int32) → (Nat → Int32) → (Nat → Int32) → Prop}
    {n m T v : Nat} {cr x3 x4 x5 cur : Int32} {a1 a2 a3 a4 a5 a6 a7 : Nat → Int32} {N : Nat → Nat} (C : eg_C n m T a1 a2 a3 a4) (L : eg_L n m T a1 a2 a3 a4 N) (hcur : ¬ cur = 0 → eg_R n N a5) (hv : v < n)
    (HJ : ∀ cur' b5 b6 b7, (¬ cur' = 0 → eg_R n N b5) → J x3 x4 x5 (nI (v + 1)) (nI n) (nI m) (nI T) (-1) cur' a1 a2 a3 a4 b5 b6 b7) :
    ∃ k, wL_holds_222 post J cr (nI n) x3 x4 x5 (nI m) (nI v) (eg_sh T (N v)) k 0 (nI n) (nI m) (nI T) (-1) cur a1 a2 a3 a4 a5 a6 a7 := by
  have C' := C
  obtain ⟨h2, h6, h14, hT, c1, c2, c3, c4, cd⟩ := C'
  refine pk_loop (σ := Int32 × (Nat → Int32) × (Nat → Int32) × (Nat → Int32)) (fun k i s => wL_holds_222 post J cr (nI n) x3 x4 x5 (nI m) (nI v) (eg_sh T (N v)) k (nI (5 * i)) (nI n) (nI m) (nI T) (-1) s.1 a1 a2 a3 a4 s.2.1 s.2.2.1 s.2.2.2)
    (fun _ s => ¬ s.1 = 0 → eg_R n N s.2.1) 7 0 (cur, a5, a6, a7) (by omega) hcur ?_ ?_
  · intro k s hI
    obtain ⟨cu, b5, b6, b7⟩ := s
    refine pk_le 31 (5 * 7) (fun _ => ?_) (fun z => absurd z (by omega))
    obtain ⟨c, hc, ec⟩ := pk_andE cr (m := 63) 6 (by decide)
    rw [ec]
    exact eg_store0 C hv (by omega) (br_t rfl (nm_r (nI_1 v) (HJ cu b5 b6 b7 hI)))
  · intro k i s hi hI hw
    obtain ⟨cu, b5, b6, b7⟩ := s
    dsimp only at hI
    have e5 : nI (5 * i) + 5 = nI (5 * (i + 1)) := nI_add (5 * i) 5
    have hN := L.1 v hv
    refine pk_le 31 (5 * i) (fun z => absurd z (by omega)) (fun _ => ?_)
    by_cases c : N v = T
    · exact br_t (by unfold eg_sh; rw [if_pos c]; decide) (nm_r e5 (hw (cu, b5, b6, b7) hI))
    · have es : eg_sh T (N v) = nI (N v) := if_neg c
      have e8 : (128 : Int32) * nI (5 * i) + eg_sh T (N v) = nI (128 * (5 * i) + N v) := by
        rw [es, show (128 : Int32) * nI (5 * i) = nI (128 * (5 * i)) from pk_mul 128 (5 * i), nI_add]
      refine br_f (by rw [es]; exact nI_pos (by omega)) ?_
      rw [e8]
      exact eg_storeT C L hI hv (by omega) (by omega) (fun cu' d5 d6 d7 s hR hs => br_t (nI_pos' (by omega)) (nm_r e5 (hw (cu', d5, d6, d7) hR)))
theorem eg_neg {k : Nat} {x : Int32} (hk : k < 1000) (hx : x.toInt < 0) : ¬ nI k < x ∧ ¬ nI k = x ∧ ¬ nI k ≤ x ∧ x ≤ nI k := by
  rw [Int32.lt_iff_toInt_lt, Int32.le_iff_toInt_le, Int32.le_iff_toInt_le, ← Int32.toInt_inj, nI_toInt (by omega)]
  omega
theorem eg_150 {post : Int32 → St1 → Prop} {J : Int32 → Int32 → Int32 → Int32 → Int32 → Int32 → Int32 → Int32 → Int32 → (Nat → Int32) → (Nat → Int32) → (Nat → Int32) → (Nat → Int32) → (Nat → Int32) → (Nat → Int32) → (Nat → Int32) → Prop}
    {n m T v : Nat} {cr x3 x4 x5 cur : Int32} {a1 a2 a3 a4 a5 a6 a7 : Nat → Int32} {N : Nat → Nat} (C : eg_C n m T a1 a2 a3 a4) (L : eg_L n m T a1 a2 a3 a4 N) (hcur : ¬ cur = 0 → eg_R n N a5) (hv : v < n)
    (HJ : ∀ cur' b5 b6 b7, (¬ cur' = 0 → eg_R n N b5) → J x3 x4 x5 (nI (v + 1)) (nI n) (nI m) (nI T) (-1) cur' a1 a2 a3 a4 b5 b6 b7) :
    wL_holds_150 post J cr (nI n) x3 x4 x5 (nI m) (nI v) (eg_sh T (N v)) (nI n) (nI m) (nI T) (-1) cur a1 a2 a3 a4 a5 a6 a7 := by
  have C' := C
  obtain ⟨h2, h6, h14, hT, c1, c2, c3, c4, cd⟩ := C'
  have m2 : (-2 : Int32).toInt < 0 := by decide
  have m1 : (-1 : Int32).toInt < 0 := by decide
  unfold wL_holds_150
  refine eg_choice C L hcur hv (fun cu b5 b6 b7 hc R hno => ?_) (fun cu b5 b6 b7 e hc R he hm => ?_)
  · refine eg_choices C L (fun _ => R) hv (fun cu' d5 d6 d7 s hc' R' hs hiff => ?_)
    have s0 : s = 0 := hiff.mpr hno
    rw [s0]
    refine br_f (by decide) (br_f (by decide) (br_f (eg_neg (by omega) m2).2.2.1 (br_t rfl ?_)))
    exact br_t rfl (br_t rfl (br_t (by decide) (eg_222 C L (fun _ => R') hv HJ)))
  · refine eg_choices C L (fun _ => R) hv (fun cu' d5 d6 d7 s hc' R' hs hiff => ?_)
    have s0 : s ≠ 0 := fun z => hiff.mp z e he hm
    refine br_f (eg_neg (by omega) m2).1 (br_f (eg_neg (by omega) m1).2.1 (pk_le m e (fun z => absurd z (by omega)) (fun _ => br_f (eg_neg (by omega) m2).2.1 ?_)))
    exact br_f (nI_ne0 (by omega) (by omega)) (br_t rfl (pk_le s 3 (fun _ => eg_222 C L (fun _ => R') hv HJ) (fun z => absurd z (by omega))))
theorem eg_rank {post : Int32 → Prop} {T x : Nat} (hx : x ≤ T) (hT : T ≤ 31) (hp : post (nI (if x = T then 100 else x))) : wpL_rank post () (eg_sh T x) := by
  unfold wpL_rank
  by_cases c : x = T
  · rw [if_pos c] at hp
    rw [show eg_sh T x = -2 from if_pos c]
    exact br_f (by decide) hp
  · rw [if_neg c] at hp
    rw [show eg_sh T x = nI x from if_neg c]
    exact br_t (nI_pos' (by omega)) hp
theorem eg_103 {post : Int32 → St1 → Prop} {J : Int32 → Int32 → Int32 → Int32 → Int32 → Int32 → Int32 → Int32 → Int32 → (Nat → Int32) → (Nat → Int32) → (Nat → Int32) → (Nat → Int32) → (Nat → Int32) → (Nat → Int32) → (Nat → Int32) → Prop}
    {n m T v : Nat} {cr x3 x4 x5 cur : Int32} {a1 a2 a3 a4 a5 a6 a7 : Nat → Int32} {N : Nat → Nat} (C : eg_C n m T a1 a2 a3 a4) (L : eg_L n m T a1 a2 a3 a4 N) (hv : v < n)
    (HJ : ∀ cur' b5 b6 b7, (¬ cur' = 0 → eg_R n N b5) → J x3 x4 x5 (nI (v + 1)) (nI n) (nI m) (nI T) (-1) cur' a1 a2 a3 a4 b5 b6 b7) :
    wL_holds_103 post J cr (nI n) x3 x4 x5 (nI m) (nI v) (eg_sh T (N v)) (nI n) (nI m) (nI T) (-1) cur a1 a2 a3 a4 a5 a6 a7 := by
  have C' := C
  obtain ⟨h2, h6, h14, hT, c1, c2, c3, c4, cd⟩ := C'
  have hh : ∀ e, e < m → eg_t a2 e < n := fun e he => (eg_vt (c2 e he) (by omega)).2
  obtain ⟨N0, L0⟩ : ∃ N0, eg_L n m T a1 a2 a3 (upd a4 v 0) N0 := eg_Lf_ex hh
  obtain ⟨N1, L1⟩ : ∃ N1, eg_L n m T a1 a2 a3 (upd a4 v 1) N1 := eg_Lf_ex hh
  have hle : N0 v ≤ N1 v := by
    refine eg_Lf_mono hh (fun w _ ho => ?_) L0 L1 v hv
    by_cases e : w = v
    · rw [e]
      exact decide_eq_true pk_us
    · have ho' := of_decide_eq_true ho
      rw [pk_un e] at ho'
      exact decide_eq_true (by rw [pk_un e]; exact ho')
  have t0 := L0.1 v hv
  have t1 := L1.1 v hv
  have hsame : eg_sh T (N v) = eg_sh T (N0 v) ∨ eg_sh T (N v) = eg_sh T (N1 v) := by
    rcases c4 v hv with z | z
    · left
      rw [eg_uself z] at L0
      rw [eg_Lf_uniq L L0 v hv]
    · right
      rw [eg_uself z] at L1
      rw [eg_Lf_uniq L L1 v hv]
  unfold wL_holds_103
  refine eg_needOf C (Or.inl rfl) L0 hv (fun b5 b6 b7 => eg_needOf C (Or.inr rfl) L1 hv (fun d5 d6 d7 => ?_))
  refine eg_rank t0 (by omega) (eg_rank t1 (by omega) ?_)
  have hlt : (if N0 v = T then 100 else N0 v) ≤ (if N1 v = T then 100 else N1 v) ∧ (if N1 v = T then 100 else N1 v) ≤ 100 := by
    repeat' split
    all_goals omega
  have h150 : wL_holds_150 post J cr (nI n) x3 x4 x5 (nI m) (nI v) (eg_sh T (N v)) (nI n) (nI m) (nI T) (-1) 0 a1 a2 a3 a4 d5 d6 d7 := eg_150 C L (fun z => absurd rfl z) hv HJ
  refine pk_lt (if N1 v = T then 100 else N1 v) (if N0 v = T then 100 else N0 v) (fun z => absurd z (by omega)) (fun _ => br_c (fun _ => h150) (fun hne => br_t ?_ h150)) rfl rfl (by omega) (by omega)
  rcases hsame with z | z
  · exact absurd z hne
  · exact z
theorem eg_22 {post : Int32 → St1 → Prop} {n m T : Nat} {cr cur : Int32} {a1 a2 a3 a4 a5 a6 a7 : Nat → Int32} {N : Nat → Nat} (C : eg_C n m T a1 a2 a3 a4) (L : eg_L n m T a1 a2 a3 a4 N) (hcur : ¬ cur = 0 → eg_R n N a5)
    (H : ∀ cur' b5 b6 b7, (¬ cur' = 0 → eg_R n N b5) → post 1 (nI n, nI m, nI T, -1, cur', a1, a2, a3, a4, b5, b6, b7)) :
    ∃ k, wL_holds_22 post cr (nI n) (nI m) k 0 0 0 0 (nI n) (nI m) (nI T) (-1) cur a1 a2 a3 a4 a5 a6 a7 := by
  have C' := C
  obtain ⟨h2, h6, h14, hT, c1, c2, c3, c4, cd⟩ := C'
  have m2 : (-2 : Int32).toInt < 0 := by decide
  have m1 : (-1 : Int32).toInt < 0 := by decide
  have e6 : (6 : Int32) * (nI n - 1) = nI (6 * (n - 1)) := by
    rw [show nI n - 1 = nI (n - 1) from pk_sub (b := 1) (by omega)]
    exact pk_mul 6 (n - 1)
  refine pk_loop (σ := Int32 × (Nat → Int32) × (Nat → Int32) × (Nat → Int32)) (fun k i s => wL_holds_22 post cr (nI n) (nI m) k (nI (eg_lost T N i)) (nI (eg_most T N i)) (eg_safe cr T N i) (nI i) (nI n) (nI m) (nI T) (-1) s.1 a1 a2 a3 a4 s.2.1 s.2.2.1 s.2.2.2)
    (fun _ s => ¬ s.1 = 0 → eg_R n N s.2.1) n 0 (cur, a5, a6, a7) (by omega) hcur ?_ ?_
  · intro k s hI
    obtain ⟨cu, b5, b6, b7⟩ := s
    refine pk_le n n (fun _ => ?_) (fun z => absurd z (by omega))
    refine eg_hopeless C L hI (fun u1 p5 p6 p7 k1 R1 => br_t rfl ?_)
    refine eg_greatest C L (fun _ => R1) (fun u2 q5 q6 q7 k2 R2 => br_t rfl ?_)
    refine eg_safeW C L (fun _ => R2) (fun u3 r5 r6 r7 k3 R3 => br_t rfl ?_)
    refine br_f (nI_pos (by omega)) (pk_lt 14 m (fun z => absurd z (by omega)) (fun _ => ?_))
    exact eg_without C (br_t rfl (eg_needOf2 C (br_t rfl (eg_need0 C (br_t rfl (eg_store1 C (br_t rfl (eg_store2 C (br_t rfl (H u3 r5 r6 r7 (fun _ => R3)))))))))))
  · intro k i s hi hI hw
    obtain ⟨cu, b5, b6, b7⟩ := s
    dsimp only at hI
    have hN := L.1 i hi
    have hmo := eg_most_le T N i
    have hw' : ∀ cu' d5 d6 d7, (¬ cu' = 0 → eg_R n N d5) → wL_holds_22 post cr (nI n) (nI m) k (nI (eg_lost T N i + (if N i = T then 1 else 0))) (nI (eg_most T N (i + 1))) (eg_safe cr T N (i + 1)) (nI (i + 1)) (nI n) (nI m) (nI T) (-1) cu' a1 a2 a3 a4 d5 d6 d7 := fun cu' d5 d6 d7 h => hw (cu', d5, d6, d7) h
    refine pk_le n i (fun z => absurd z (by omega)) (fun _ => eg_need C L hI hi (fun u1 p5 p6 p7 k1 R1 => ?_))
    dsimp only
    rw [e6]
    by_cases c : N i = T
    · have es : eg_sh T (N i) = -2 := if_pos c
      rw [if_pos c, eg_most_s, if_pos (by omega), eg_safe_s, if_pos (by omega)] at hw'
      have k103 := eg_103 (post := post) (cr := cr) (cur := u1) (a5 := p5) (a6 := p6) (a7 := p7) C L hi hw'
      rw [es] at k103 ⊢
      refine br_f (by decide) (br_f (by decide) (br_t (eg_neg (by omega) m2).2.2.2 (br_t rfl (nm_r (nI_1 _) ?_))))
      exact br_t (eg_neg (by omega) m2).2.2.2 (br_t (by decide) k103)
    · have es : eg_sh T (N i) = nI (N i) := if_neg c
      have hnt : ¬ T ≤ N i := by omega
      rw [if_neg c, Nat.add_zero, eg_most_s, if_neg hnt, eg_safe_s, if_neg hnt] at hw'
      have k103 := fun x4 x5 h => eg_103 (post := post) (cr := cr) (cur := u1) (a5 := p5) (a6 := p6) (a7 := p7) (x3 := nI (eg_lost T N i)) (x4 := x4) (x5 := x5) (J := wL_holds_22 post cr (nI n) (nI m) k) C L hi h
      rw [es] at k103 ⊢
      refine br_f (eg_neg (by omega) m1).2.1 (br_f (eg_neg (by omega) m2).1 (pk_le (N i) (6 * (n - 1)) (fun _ => br_f (eg_neg (by omega) m2).2.1 ?_) (fun z => absurd z (by omega))))
      refine pk_le (N i) (eg_most T N i) (fun z => ?_) (fun z => ?_)
      · rw [if_pos z] at hw'
        refine br_f (nI_pos (by omega)) (br_c (fun y => ?_) (fun y => nm_e ?_))
        · rw [if_pos y] at hw'
          exact k103 _ _ hw'
        · rw [if_neg y] at hw'
          exact k103 _ _ hw'
      · rw [if_neg (by omega)] at hw'
        refine br_f (nI_pos (by omega)) (br_c (fun y => ?_) (fun y => nm_e ?_))
        · rw [if_pos y] at hw'
          exact k103 _ _ hw'
        · rw [if_neg y] at hw'
          exact k103 _ _ hw'
theorem eg_holds {post : Int32 → St1 → Prop} {n m T : Nat} {cr cur : Int32} {a1 a2 a3 a4 a5 a6 a7 : Nat → Int32} (C : eg_C n m T a1 a2 a3 a4) (hcur : ¬ cur = 0 → ∀ N, eg_L n m T a1 a2 a3 a4 N → eg_R n N a5)
    (H : ∀ cur' b5 b6 b7, (¬ cur' = 0 → ∀ N, eg_L n m T a1 a2 a3 a4 N → eg_R n N b5) → post 1 (nI n, nI m, nI T, -1, cur', a1, a2, a3, a4, b5, b6, b7)) :
    wpL_holds post (nI n, nI m, nI T, -1, cur, a1, a2, a3, a4, a5, a6, a7) cr := by
  have C' := C
  obtain ⟨h2, h6, h14, hT, c1, c2, c3, c4, cd⟩ := C'
  have hh : ∀ e, e < m → eg_t a2 e < n := fun e he => (eg_vt (c2 e he) (by omega)).2
  obtain ⟨N, L⟩ : ∃ N, eg_L n m T a1 a2 a3 a4 N := eg_Lf_ex hh
  unfold wpL_holds
  dsimp only
  unfold wpX_vertices
  dsimp only
  unfold wpX_edges
  dsimp only
  exact eg_22 C L (fun h => hcur h N L) (fun cur' b5 b6 b7 h => H cur' b5 b6 b7 (fun hc N' L' v hv => by rw [h hc v hv, eg_Lf_uniq L L' v hv]))
end
section
/-- the object's state between two turns of the law -/
def eg_J (u : St1) : Prop := ∃ (n m T : Nat) (cur : Int32) (a1 a2 a3 a4 a5 a6 a7 : Nat → Int32), u = (nI n, nI m, nI T, -1, cur, a1, a2, a3, a4, a5, a6, a7) ∧ eg_C n m T a1 a2 a3 a4 ∧ (¬ cur = 0 → ∀ N, eg_L n m T a1 a2 a3 a4 N → eg_R n N a5)
theorem eg_law {L : Nat} {xs : Nat → Int32} {kc ks : Nat} (hL : L ≤ 260) (h1 : 1 ≤ L) (s : St1) (hJ : eg_J s) :
    ∃ k, wL_law_21 (fun r => r = 1) L xs kc ks k 1 s.1 s.2.1 s.2.2.1 s.2.2.2.1 s.2.2.2.2.1 s.2.2.2.2.2.1 s.2.2.2.2.2.2.1 s.2.2.2.2.2.2.2.1 s.2.2.2.2.2.2.2.2.1 s.2.2.2.2.2.2.2.2.2.1 s.2.2.2.2.2.2.2.2.2.2.1 s.2.2.2.2.2.2.2.2.2.2.2 := by
  refine pk_loop (σ := St1) (fun k i s => wL_law_21 (fun r => r = 1) L xs kc ks k (nI (1 + 4 * i)) s.1 s.2.1 s.2.2.1 s.2.2.2.1 s.2.2.2.2.1 s.2.2.2.2.2.1 s.2.2.2.2.2.2.1 s.2.2.2.2.2.2.2.1 s.2.2.2.2.2.2.2.2.1 s.2.2.2.2.2.2.2.2.2.1 s.2.2.2.2.2.2.2.2.2.2.1 s.2.2.2.2.2.2.2.2.2.2.2) (fun _ s => eg_J s) ((L - 1) / 4) 0 s (by omega) hJ ?_ ?_
  · intro k s _
    exact pk_le L (1 + 4 * ((L - 1) / 4) + 3) (fun _ => rfl) (fun z => absurd z (by omega)) rfl (nI_add _ 3)
  · intro k i s hi hI hw
    obtain ⟨n, m, T, cur, a1, a2, a3, a4, a5, a6, a7, e, C, hc⟩ := hI
    subst e
    have v3 : vp_in (nI (1 + 4 * i) + 3) L := pk_in (1 + 4 * i + 3) L (by omega) (nI_add _ 3)
    have key : ∀ (m' : Nat) (cu : Int32) (b1 b2 b3 b4 : Nat → Int32), eg_C n m' T b1 b2 b3 b4 → (¬ cu = 0 → ∀ N, eg_L n m' T b1 b2 b3 b4 N → eg_R n N a5) → ∀ cr, wpL_holds (fun r_68 u => match u with | (fm8_n_69, fm8_count_70, fm8_top_71, fm8_skipped_72, fm8_current_73, am651_76, am652_79, am653_82, am654_85, am655_88, am656_91, am657_94) => (((r_68 = 0 → ((fun r => r = 1) (0 : Int32))) ∧ (¬ r_68 = 0 → (∀ x2_96 : Int32, x2_96 = nI (1 + 4 * i) + 4 → (wL_law_21 (fun r => r = 1) L xs kc ks k x2_96 fm8_n_69 fm8_count_70 fm8_top_71 fm8_skipped_72 fm8_current_73 am651_76 am652_79 am653_82 am654_85 am655_88 am656_91 am657_94)))))) (nI n, nI m', nI T, -1, cu, b1, b2, b3, b4, a5, a6, a7) cr := by
      intro m' cu b1 b2 b3 b4 C' hc' cr
      refine eg_holds C' hc' (fun cu' d5 d6 d7 h => br_f (by decide) (nm_r (e' := nI (1 + 4 * (i + 1))) (nI_add (1 + 4 * i) 4) ?_))
      exact hw (nI n, nI m', nI T, -1, cu', b1, b2, b3, b4, d5, d6, d7) ⟨n, m', T, cu', b1, b2, b3, b4, d5, d6, d7, rfl, C', h⟩
    refine pk_le L (1 + 4 * i + 3) (fun z => absurd z (by omega)) (fun _ => ⟨pk_in (1 + 4 * i) L (by omega), pk_in (1 + 4 * i + 1) L (by omega) (nI_add _ 1), pk_in (1 + 4 * i + 2) L (by omega) (nI_add _ 2), v3, ?_⟩) rfl (nI_add _ 3)
    exact eg_call C ⟨v3, key m cur a1 a2 a3 a4 C hc _⟩ (fun m' b1 b2 b3 b4 C' => ⟨v3, key m' 0 b1 b2 b3 b4 C' (fun z => absurd rfl z) _⟩)
theorem i_vc (xs : Nat → Int32) (L : Nat) (hL : L ≤ 260) : wpL_law (fun r => r = 1) L xs := by
  unfold wpL_law
  refine pk_le 1 L (fun h1 => ⟨pk_in 0 L (by omega), 7, 68, by omega, by omega, eg_init (fun n h2 h6 => ?_)⟩) (fun _ => rfl)
  exact eg_law hL h1 (nI n, nI 0, nI (6 * (n - 1) + 1), -1, 0, (fun _ => 0), (fun _ => 0), (fun _ => 0), (fun _ => 0), (fun _ => 0), (fun _ => 0), (fun _ => 0))
    ⟨n, 0, 6 * (n - 1) + 1, 0, _, _, _, _, _, _, _, rfl, ⟨h2, h6, by omega, rfl, lt_0, lt_0, lt_0, fun _ _ => Or.inl rfl, fun _ => Nat.zero_le 3⟩, fun z => absurd rfl z⟩
end
