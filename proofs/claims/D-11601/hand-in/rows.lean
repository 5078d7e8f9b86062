section
/-! numbers -/
theorem tk_ne {a b : Nat} (h : a ≠ b) (ha : a < 2 ^ 31 := by omega) (hb : b < 2 ^ 31 := by omega) : nI a ≠ nI b := fun e => h ((nI_eq ha hb).mp e)
theorem tk_inj {a b : Nat} (e : nI a = nI b) (ha : a < 2 ^ 31 := by omega) (hb : b < 2 ^ 31 := by omega) : a = b := (nI_eq ha hb).mp e
theorem tk_ne0 {a : Nat} (h : 0 < a) (ha : a < 2 ^ 31 := by omega) : nI a ≠ 0 := nI_ne0 h ha
theorem tk_m1 {a : Nat} (ha : a < 2 ^ 31 := by omega) : nI a ≠ -1 := fun e => by
  have h := nI_pos ha
  rw [e] at h
  exact h (by decide)
theorem tk_b8 : ∀ c, c < 128 → (nI c).toInt8.toInt32 = nI c := by decide +kernel
theorem tk_nar {c : Nat} (h : c < 128) : vp_nar .byte (nI c) = nI c := by rw [vp_nar_byte, tk_b8 c h]
/-! counts -/
/-- how many of the first n places of a hold v -/
def tk_cnt (a : Nat → Int32) (v : Int32) : Nat → Nat
  | 0 => 0
  | n + 1 => tk_cnt a v n + (if a n = v then 1 else 0)
theorem tk_cnt_le (a : Nat → Int32) (v : Int32) (n : Nat) : tk_cnt a v n ≤ n := by
  induction n with
  | zero => exact Nat.le_refl 0
  | succ n ih =>
    show tk_cnt a v n + (if a n = v then 1 else 0) ≤ n + 1
    split <;> omega
theorem tk_cnt_cg {a b : Nat → Int32} {v w : Int32} (n : Nat) (h : ∀ x, x < n → (a x = v ↔ b x = w)) : tk_cnt a v n = tk_cnt b w n := by
  induction n with
  | zero => rfl
  | succ n ih =>
    show tk_cnt a v n + (if a n = v then 1 else 0) = tk_cnt b w n + (if b n = w then 1 else 0)
    rw [ih (fun x hx => h x (by omega))]
    by_cases e : a n = v
    · rw [if_pos e, if_pos ((h n (by omega)).mp e)]
    · rw [if_neg e, if_neg (fun z => e ((h n (by omega)).mpr z))]
theorem tk_cnt_0 {a : Nat → Int32} {v : Int32} (n : Nat) (h : ∀ x, x < n → a x ≠ v) : tk_cnt a v n = 0 := by
  induction n with
  | zero => rfl
  | succ n ih =>
    show tk_cnt a v n + (if a n = v then 1 else 0) = 0
    rw [ih (fun x hx => h x (by omega)), if_neg (h n (by omega))]
theorem tk_cnt_no {a : Nat → Int32} {v : Int32} {n : Nat} (h : tk_cnt a v n = 0) {x : Nat} (hx : x < n) : a x ≠ v := by
  induction n with
  | zero => omega
  | succ n ih =>
    have h' : tk_cnt a v n + (if a n = v then 1 else 0) = 0 := h
    by_cases e : x = n
    · intro z
      rw [if_pos (e ▸ z)] at h'
      omega
    · exact ih (by omega) (by omega)
theorem tk_cnt_pos {a : Nat → Int32} {v : Int32} {n x : Nat} (hx : x < n) (e : a x = v) : 0 < tk_cnt a v n := by
  rcases Nat.eq_zero_or_pos (tk_cnt a v n) with z | z
  · exact absurd e (tk_cnt_no z hx)
  · exact z
theorem tk_cnt_yes {a : Nat → Int32} {v : Int32} {n : Nat} (h : 0 < tk_cnt a v n) : ∃ x, x < n ∧ a x = v := by
  induction n with
  | zero => exact absurd h (Nat.lt_irrefl 0)
  | succ n ih =>
    by_cases e : a n = v
    · exact ⟨n, by omega, e⟩
    · have h' : 0 < tk_cnt a v n + (if a n = v then 1 else 0) := h
      rw [if_neg e] at h'
      obtain ⟨x, hx, ex⟩ := ih h'
      exact ⟨x, by omega, ex⟩
theorem tk_cnt_upd {a : Nat → Int32} {v w : Int32} {x : Nat} (n : Nat) (hx : x < n) : tk_cnt (upd a x w) v n + (if a x = v then 1 else 0) = tk_cnt a v n + (if w = v then 1 else 0) := by
  induction n with
  | zero => omega
  | succ n ih =>
    show tk_cnt (upd a x w) v n + (if upd a x w n = v then 1 else 0) + (if a x = v then 1 else 0) = tk_cnt a v n + (if a n = v then 1 else 0) + (if w = v then 1 else 0)
    by_cases e : x = n
    · subst e
      rw [pk_us, tk_cnt_cg (a := upd a x w) (b := a) (w := v) x (fun y hy => by rw [pk_un (by omega)])]
      omega
    · rw [pk_un (show n ≠ x from fun z => e z.symm)]
      have := ih (by omega)
      omega
theorem tk_cnt_same {a : Nat → Int32} {v w : Int32} {x : Nat} (n : Nat) (h1 : a x ≠ v) (h2 : w ≠ v) : tk_cnt (upd a x w) v n = tk_cnt a v n := tk_cnt_cg n (fun y hy => by
  by_cases e : y = x
  · subst e
    rw [pk_us]
    exact ⟨fun z => absurd z h2, fun z => absurd z h1⟩
  · rw [pk_un e])
theorem tk_cnt_add {a : Nat → Int32} {v : Int32} {x n : Nat} (hx : x < n) (h1 : a x ≠ v) : tk_cnt (upd a x v) v n = tk_cnt a v n + 1 := by
  have := tk_cnt_upd (a := a) (v := v) (w := v) n hx
  rw [if_neg h1, if_pos rfl] at this
  omega
theorem tk_cnt_sub {a : Nat → Int32} {v w : Int32} {x n : Nat} (hx : x < n) (h1 : a x = v) (h2 : w ≠ v) : tk_cnt (upd a x w) v n + 1 = tk_cnt a v n := by
  have := tk_cnt_upd (a := a) (v := v) (w := w) n hx
  rw [if_pos h1, if_neg h2] at this
  omega
theorem tk_cnt_rl {a b : Nat → Int32} {u w : Int32} {n : Nat} (hb : ∀ x, x < n → b x = if a x = u then w else a x) (h0 : tk_cnt a w n = 0) (huw : u ≠ w) :
    tk_cnt b w n = tk_cnt a u n ∧ tk_cnt b u n = 0 ∧ ∀ v, v ≠ u → v ≠ w → tk_cnt b v n = tk_cnt a v n := by
  refine ⟨tk_cnt_cg n (fun x hx => ?_), tk_cnt_0 n (fun x hx => ?_), fun v h1 h2 => tk_cnt_cg n (fun x hx => ?_)⟩
  · rw [hb x hx]
    by_cases e : a x = u
    · rw [if_pos e]
      exact ⟨fun _ => e, fun _ => rfl⟩
    · rw [if_neg e]
      exact ⟨fun z => absurd z (tk_cnt_no h0 hx), fun z => absurd z e⟩
  · rw [hb x hx]
    by_cases e : a x = u
    · rw [if_pos e]
      exact huw.symm
    · rw [if_neg e]
      exact e
  · rw [hb x hx]
    by_cases e : a x = u
    · rw [if_pos e]
      exact ⟨fun z => absurd z.symm h2, fun z => absurd (z.symm.trans e) h1⟩
    · rw [if_neg e]
/-! pigeons -/
def tk_tot (a : Nat → Int32) (g : Nat → Int32) (n : Nat) : Nat → Nat
  | 0 => 0
  | m + 1 => tk_tot a g n m + tk_cnt a (g m) n
def tk_hit (y : Int32) (g : Nat → Int32) : Nat → Nat
  | 0 => 0
  | m + 1 => tk_hit y g m + (if y = g m then 1 else 0)
theorem tk_hit_0 {y : Int32} {g : Nat → Int32} (m : Nat) (h : ∀ k, k < m → y ≠ g k) : tk_hit y g m = 0 := by
  induction m with
  | zero => rfl
  | succ m ih =>
    show tk_hit y g m + (if y = g m then 1 else 0) = 0
    rw [ih (fun k hk => h k (by omega)), if_neg (h m (by omega))]
theorem tk_hit_1 {y : Int32} {g : Nat → Int32} (m : Nat) (h : ∀ j k, j < m → k < m → g j = g k → j = k) : tk_hit y g m ≤ 1 := by
  induction m with
  | zero => exact Nat.zero_le 1
  | succ m ih =>
    show tk_hit y g m + (if y = g m then 1 else 0) ≤ 1
    by_cases e : y = g m
    · rw [if_pos e, tk_hit_0 m (fun k hk z => by have := h k m (by omega) (by omega) (z.symm.trans e); omega)]
      omega
    · rw [if_neg e]
      have := ih (fun j k hj hk z => h j k (by omega) (by omega) z)
      omega
theorem tk_tot_s (a g : Nat → Int32) (n m : Nat) : tk_tot a g (n + 1) m = tk_tot a g n m + tk_hit (a n) g m := by
  induction m with
  | zero => rfl
  | succ m ih =>
    show tk_tot a g (n + 1) m + (tk_cnt a (g m) n + (if a n = g m then 1 else 0)) = tk_tot a g n m + tk_cnt a (g m) n + (tk_hit (a n) g m + (if a n = g m then 1 else 0))
    rw [ih]
    omega
theorem tk_tot_0 (a g : Nat → Int32) (m : Nat) : tk_tot a g 0 m = 0 := by
  induction m with
  | zero => rfl
  | succ m ih =>
    show tk_tot a g 0 m + 0 = 0
    rw [ih]
theorem tk_tot_le (a g : Nat → Int32) (n m : Nat) (h : ∀ j k, j < m → k < m → g j = g k → j = k) : tk_tot a g n m ≤ n := by
  induction n with
  | zero => rw [tk_tot_0]; exact Nat.le_refl 0
  | succ n ih =>
    rw [tk_tot_s]
    have := tk_hit_1 (y := a n) m h
    omega
theorem tk_tot_ge (a g : Nat → Int32) (n m : Nat) (h : ∀ k, k < m → 0 < tk_cnt a (g k) n) : m ≤ tk_tot a g n m := by
  induction m with
  | zero => exact Nat.zero_le _
  | succ m ih =>
    show m + 1 ≤ tk_tot a g n m + tk_cnt a (g m) n
    have h1 := ih (fun k hk => h k (by omega))
    have h2 := h m (by omega)
    omega
/-! pages -/
def tk_ev (v : Int32) : Prop := v = 0 ∨ (∃ f, f < 10 ∧ v = nI (1 + f)) ∨ (∃ s, s < 24 ∧ v = nI (32 + s))
/-- the page tables: the hand, the entries, the sharers of frames and of what was moved out -/
def tk_M (f3 : Int32) (a16 a17 a20 : Nat → Int32) : Prop := (∃ h, h < 10 ∧ f3 = nI h) ∧ (∀ x, x < 24 → tk_ev (a16 x)) ∧ (∀ f, f < 10 → a17 f = nI (tk_cnt a16 (nI (1 + f)) 24)) ∧ (∀ s, s < 24 → a20 s = nI (tk_cnt a16 (nI (32 + s)) 24))
/-- word j of page x -/
def tk_W (a16 a19 a21 : Nat → Int32) (x j : Nat) : Int32 := if a16 x = 0 then 0 else if a16 x < 32 then a19 (8 * ((a16 x).toNatClampNeg - 1) + j) else a21 (8 * ((a16 x).toNatClampNeg - 32) + j)
theorem tk_W0 {a16 a19 a21 : Nat → Int32} {x j : Nat} (h : a16 x = 0) : tk_W a16 a19 a21 x j = 0 := if_pos h
theorem tk_Wf {a16 a19 a21 : Nat → Int32} {x j f : Nat} (hf : f < 10) (h : a16 x = nI (1 + f)) : tk_W a16 a19 a21 x j = a19 (8 * f + j) := by
  unfold tk_W
  rw [h, if_neg (tk_ne0 (by omega)), if_pos (show nI (1 + f) < 32 from nI_lt (b := 32) (by omega) (by omega)), nI_clamp (by omega), show 1 + f - 1 = f by omega]
theorem tk_Ws {a16 a19 a21 : Nat → Int32} {x j s : Nat} (hs : s < 24) (h : a16 x = nI (32 + s)) : tk_W a16 a19 a21 x j = a21 (8 * s + j) := by
  unfold tk_W
  rw [h, if_neg (tk_ne0 (by omega)), if_neg (show ¬ nI (32 + s) < 32 from nI_nlt (b := 32) (by omega) (by omega)), nI_clamp (by omega), show 32 + s - 32 = s by omega]
/-- the memory: tables in order, and the words w -/
def tk_N (f3 : Int32) (a16 a17 a19 a20 a21 : Nat → Int32) (w : Nat → Nat → Int32) : Prop := tk_M f3 a16 a17 a20 ∧ ∀ x j, x < 24 → j < 8 → tk_W a16 a19 a21 x j = w x j
theorem tk_N_of {f3 : Int32} {a16 a17 a19 a20 a21 : Nat → Int32} (h : tk_M f3 a16 a17 a20) : tk_N f3 a16 a17 a19 a20 a21 (tk_W a16 a19 a21) := ⟨h, fun _ _ _ _ => rfl⟩
theorem tk_pig {a16 : Nat → Int32} {f : Nat} (hf : f < 10) (h : 0 < tk_cnt a16 (nI (1 + f)) 24) : ∃ s, s < 24 ∧ tk_cnt a16 (nI (32 + s)) 24 = 0 := by
  refine Classical.byContradiction (fun hn => ?_)
  have hp : ∀ s, s < 24 → 0 < tk_cnt a16 (nI (32 + s)) 24 := fun s hs => by
    rcases Nat.eq_zero_or_pos (tk_cnt a16 (nI (32 + s)) 24) with z | z
    · exact absurd ⟨s, hs, z⟩ hn
    · exact z
  have h1 := tk_tot_ge a16 (fun k => nI (if k < 24 then 32 + k else 1 + f)) 24 25 (fun k hk => by
    show 0 < tk_cnt a16 (nI (if k < 24 then 32 + k else 1 + f)) 24
    by_cases e : k < 24
    · rw [if_pos e]
      exact hp k e
    · rw [if_neg e]
      exact h)
  have h2 := tk_tot_le a16 (fun k => nI (if k < 24 then 32 + k else 1 + f)) 24 25 (fun j k hj hk z => by
    have z' : nI (if j < 24 then 32 + j else 1 + f) = nI (if k < 24 then 32 + k else 1 + f) := z
    by_cases e : j < 24
    · by_cases e2 : k < 24
      · rw [if_pos e, if_pos e2] at z'
        have := tk_inj z'
        omega
      · rw [if_pos e, if_neg e2] at z'
        have := tk_inj z'
        omega
    · by_cases e2 : k < 24
      · rw [if_neg e, if_pos e2] at z'
        have := tk_inj z'
        omega
      · omega)
  omega
/-- frame f is moved out to s -/
theorem tk_M_mv {f3 : Int32} {a16 a17 a20 b16 : Nat → Int32} {f s : Nat} (h : tk_M f3 a16 a17 a20) (hf : f < 10) (hs : s < 24) (h0 : tk_cnt a16 (nI (32 + s)) 24 = 0)
    (hb : ∀ x, x < 24 → b16 x = if a16 x = nI (1 + f) then nI (32 + s) else a16 x) : tk_M f3 b16 (upd a17 f 0) (upd a20 s (a17 f)) := by
  obtain ⟨m1, m2, m3, m4⟩ := h
  obtain ⟨c1, c2, c3⟩ := tk_cnt_rl hb h0 (tk_ne (by omega))
  refine ⟨m1, fun x hx => ?_, fun g hg => ?_, fun t ht => ?_⟩
  · rw [hb x hx]
    by_cases e : a16 x = nI (1 + f)
    · rw [if_pos e]
      exact Or.inr (Or.inr ⟨s, hs, rfl⟩)
    · rw [if_neg e]
      exact m2 x hx
  · by_cases e : g = f
    · rw [e, pk_us, c2]
      rfl
    · rw [pk_un e, m3 g hg, c3 _ (tk_ne (by omega)) (tk_ne (by omega))]
  · by_cases e : t = s
    · rw [e, pk_us, c1, m3 f hf]
    · rw [pk_un e, m4 t ht, c3 _ (tk_ne (by omega)) (tk_ne (by omega))]
theorem tk_N_mv {f3 : Int32} {a16 a17 a19 a20 a21 b16 b21 : Nat → Int32} {w : Nat → Nat → Int32} {f s : Nat} (h : tk_N f3 a16 a17 a19 a20 a21 w) (hf : f < 10) (hs : s < 24) (h0 : tk_cnt a16 (nI (32 + s)) 24 = 0)
    (hb : ∀ x, x < 24 → b16 x = if a16 x = nI (1 + f) then nI (32 + s) else a16 x) (hc : ∀ j, j < 8 → b21 (8 * s + j) = a19 (8 * f + j)) (ho : ∀ y, y < 8 * s ∨ 8 * s + 8 ≤ y → b21 y = a21 y) :
    tk_N f3 b16 (upd a17 f 0) a19 (upd a20 s (a17 f)) b21 w := by
  refine ⟨tk_M_mv h.1 hf hs h0 hb, fun x j hx hj => ?_⟩
  rw [← h.2 x j hx hj]
  have e := hb x hx
  rcases h.1.2.1 x hx with z | ⟨g, hg, z⟩ | ⟨t, ht, z⟩
  · rw [if_neg (by rw [z]; exact (tk_ne0 (by omega)).symm), z] at e
    rw [tk_W0 e, tk_W0 z]
  · by_cases eg : g = f
    · rw [if_pos (by rw [z, eg])] at e
      rw [tk_Ws hs e, tk_Wf hg z, hc j hj, eg]
    · rw [if_neg (by rw [z]; exact tk_ne (by omega)), z] at e
      rw [tk_Wf hg e, tk_Wf hg z]
  · have et : t ≠ s := fun q => tk_cnt_no h0 hx (by rw [z, q])
    rw [if_neg (by rw [z]; exact tk_ne (by omega)), z] at e
    rw [tk_Ws ht e, tk_Ws ht z, ho _ (by omega)]
/-- what was moved out to s comes back into frame f -/
theorem tk_M_fr {f3 : Int32} {a16 a17 a20 b16 : Nat → Int32} {f s : Nat} (h : tk_M f3 a16 a17 a20) (hf : f < 10) (hs : s < 24) (h0 : tk_cnt a16 (nI (1 + f)) 24 = 0)
    (hb : ∀ x, x < 24 → b16 x = if a16 x = nI (32 + s) then nI (1 + f) else a16 x) : tk_M f3 b16 (upd a17 f (a20 s)) (upd a20 s 0) := by
  obtain ⟨m1, m2, m3, m4⟩ := h
  obtain ⟨c1, c2, c3⟩ := tk_cnt_rl hb h0 (tk_ne (by omega))
  refine ⟨m1, fun x hx => ?_, fun g hg => ?_, fun t ht => ?_⟩
  · rw [hb x hx]
    by_cases e : a16 x = nI (32 + s)
    · rw [if_pos e]
      exact Or.inr (Or.inl ⟨f, hf, rfl⟩)
    · rw [if_neg e]
      exact m2 x hx
  · by_cases e : g = f
    · rw [e, pk_us, c1, m4 s hs]
    · rw [pk_un e, m3 g hg, c3 _ (tk_ne (by omega)) (tk_ne (by omega))]
  · by_cases e : t = s
    · rw [e, pk_us, c2]
      rfl
    · rw [pk_un e, m4 t ht, c3 _ (tk_ne (by omega)) (tk_ne (by omega))]
theorem tk_N_fr {f3 : Int32} {a16 a17 a19 a20 a21 b16 b19 : Nat → Int32} {w : Nat → Nat → Int32} {f s : Nat} (h : tk_N f3 a16 a17 a19 a20 a21 w) (hf : f < 10) (hs : s < 24) (h0 : tk_cnt a16 (nI (1 + f)) 24 = 0)
    (hb : ∀ x, x < 24 → b16 x = if a16 x = nI (32 + s) then nI (1 + f) else a16 x) (hc : ∀ j, j < 8 → b19 (8 * f + j) = a21 (8 * s + j)) (ho : ∀ y, y < 8 * f ∨ 8 * f + 8 ≤ y → b19 y = a19 y) :
    tk_N f3 b16 (upd a17 f (a20 s)) b19 (upd a20 s 0) a21 w := by
  refine ⟨tk_M_fr h.1 hf hs h0 hb, fun x j hx hj => ?_⟩
  rw [← h.2 x j hx hj]
  have e := hb x hx
  rcases h.1.2.1 x hx with z | ⟨g, hg, z⟩ | ⟨t, ht, z⟩
  · rw [if_neg (by rw [z]; exact (tk_ne0 (by omega)).symm), z] at e
    rw [tk_W0 e, tk_W0 z]
  · have et : g ≠ f := fun q => tk_cnt_no h0 hx (by rw [z, q])
    rw [if_neg (by rw [z]; exact tk_ne (by omega)), z] at e
    rw [tk_Wf hg e, tk_Wf hg z, ho _ (by omega)]
  · by_cases eg : t = s
    · rw [if_pos (by rw [z, eg])] at e
      rw [tk_Wf hf e, tk_Ws ht z, hc j hj, eg]
    · rw [if_neg (by rw [z]; exact tk_ne (by omega)), z] at e
      rw [tk_Ws ht e, tk_Ws ht z]
/-- a free frame is hung at an entry that was 0 -/
theorem tk_M_h0 {f3 : Int32} {a16 a17 a20 : Nat → Int32} {x f : Nat} (h : tk_M f3 a16 a17 a20) (hx : x < 24) (hf : f < 10) (h0 : tk_cnt a16 (nI (1 + f)) 24 = 0) (hz : a16 x = 0) :
    tk_M f3 (upd a16 x (nI (1 + f))) (upd a17 f 1) a20 := by
  obtain ⟨m1, m2, m3, m4⟩ := h
  refine ⟨m1, fun y hy => ?_, fun g hg => ?_, fun t ht => ?_⟩
  · by_cases e : y = x
    · rw [e, pk_us]
      exact Or.inr (Or.inl ⟨f, hf, rfl⟩)
    · rw [pk_un e]
      exact m2 y hy
  · by_cases e : g = f
    · rw [e, pk_us, tk_cnt_add hx (by rw [hz]; exact (tk_ne0 (by omega)).symm), h0]
      rfl
    · rw [pk_un e, m3 g hg, tk_cnt_same 24 (by rw [hz]; exact (tk_ne0 (by omega)).symm) (tk_ne (by omega))]
  · rw [m4 t ht, tk_cnt_same 24 (by rw [hz]; exact (tk_ne0 (by omega)).symm) (tk_ne (by omega))]
/-- a free frame f takes the place of frame g at an entry -/
theorem tk_M_h1 {f3 : Int32} {a16 a17 a20 : Nat → Int32} {x f g : Nat} (h : tk_M f3 a16 a17 a20) (hx : x < 24) (hf : f < 10) (hg : g < 10) (h0 : tk_cnt a16 (nI (1 + f)) 24 = 0) (hz : a16 x = nI (1 + g)) :
    tk_M f3 (upd a16 x (nI (1 + f))) (upd (upd a17 g ((a17 g - 1).toInt8.toInt32)) f 1) a20 := by
  obtain ⟨m1, m2, m3, m4⟩ := h
  have hfg : f ≠ g := fun e => tk_cnt_no h0 hx (by rw [hz, e])
  refine ⟨m1, fun y hy => ?_, fun k hk => ?_, fun t ht => ?_⟩
  · by_cases e : y = x
    · rw [e, pk_us]
      exact Or.inr (Or.inl ⟨f, hf, rfl⟩)
    · rw [pk_un e]
      exact m2 y hy
  · by_cases e : k = f
    · rw [e, pk_us, tk_cnt_add hx (by rw [hz]; exact tk_ne (by omega)), h0]
      rfl
    · rw [pk_un e]
      by_cases e2 : k = g
      · subst e2
        have hc := tk_cnt_sub (a := a16) (v := nI (1 + k)) (w := nI (1 + f)) hx hz (tk_ne (by omega))
        have hl := tk_cnt_le a16 (nI (1 + k)) 24
        rw [pk_us, m3 k hk, ← hc, nI_pred, tk_b8 _ (by omega)]
      · rw [pk_un e2, m3 k hk, tk_cnt_same 24 (by rw [hz]; exact tk_ne (by omega)) (tk_ne (by omega))]
  · rw [m4 t ht, tk_cnt_same 24 (by rw [hz]; exact tk_ne (by omega)) (tk_ne (by omega))]
/-- an entry that was 0 becomes a share of frame f, or of what was moved out to s -/
theorem tk_M_sf {f3 : Int32} {a16 a17 a20 : Nat → Int32} {x f : Nat} (h : tk_M f3 a16 a17 a20) (hx : x < 24) (hf : f < 10) (hz : a16 x = 0) :
    tk_M f3 (upd a16 x (nI (1 + f))) (upd a17 f ((a17 f + 1).toInt8.toInt32)) a20 := by
  obtain ⟨m1, m2, m3, m4⟩ := h
  refine ⟨m1, fun y hy => ?_, fun g hg => ?_, fun t ht => ?_⟩
  · by_cases e : y = x
    · rw [e, pk_us]
      exact Or.inr (Or.inl ⟨f, hf, rfl⟩)
    · rw [pk_un e]
      exact m2 y hy
  · by_cases e : g = f
    · have hl := tk_cnt_le a16 (nI (1 + f)) 24
      rw [e, pk_us, tk_cnt_add hx (by rw [hz]; exact (tk_ne0 (by omega)).symm), m3 f hf, nI_1, tk_b8 _ (by omega)]
    · rw [pk_un e, m3 g hg, tk_cnt_same 24 (by rw [hz]; exact (tk_ne0 (by omega)).symm) (tk_ne (by omega))]
  · rw [m4 t ht, tk_cnt_same 24 (by rw [hz]; exact (tk_ne0 (by omega)).symm) (tk_ne (by omega))]
theorem tk_M_ss {f3 : Int32} {a16 a17 a20 : Nat → Int32} {x s : Nat} (h : tk_M f3 a16 a17 a20) (hx : x < 24) (hs : s < 24) (hz : a16 x = 0) :
    tk_M f3 (upd a16 x (nI (32 + s))) a17 (upd a20 s ((a20 s + 1).toInt8.toInt32)) := by
  obtain ⟨m1, m2, m3, m4⟩ := h
  refine ⟨m1, fun y hy => ?_, fun g hg => ?_, fun t ht => ?_⟩
  · by_cases e : y = x
    · rw [e, pk_us]
      exact Or.inr (Or.inr ⟨s, hs, rfl⟩)
    · rw [pk_un e]
      exact m2 y hy
  · rw [m3 g hg, tk_cnt_same 24 (by rw [hz]; exact (tk_ne0 (by omega)).symm) (tk_ne (by omega))]
  · by_cases e : t = s
    · have hl := tk_cnt_le a16 (nI (32 + s)) 24
      rw [e, pk_us, tk_cnt_add hx (by rw [hz]; exact (tk_ne0 (by omega)).symm), m4 s hs, nI_1, tk_b8 _ (by omega)]
    · rw [pk_un e, m4 t ht, tk_cnt_same 24 (by rw [hz]; exact (tk_ne0 (by omega)).symm) (tk_ne (by omega))]
/-- an entry is freed -/
theorem tk_M_f0 {f3 : Int32} {a16 a17 a20 : Nat → Int32} {x : Nat} (h : tk_M f3 a16 a17 a20) (hx : x < 24) (hz : a16 x = 0) : tk_M f3 (upd a16 x 0) a17 a20 := by
  have e : upd a16 x 0 = a16 := by
    funext y
    by_cases e : y = x
    · rw [e, pk_us, hz]
    · rw [pk_un e]
  rw [e]
  exact h
theorem tk_M_ff {f3 : Int32} {a16 a17 a20 : Nat → Int32} {x f : Nat} (h : tk_M f3 a16 a17 a20) (hx : x < 24) (hf : f < 10) (hz : a16 x = nI (1 + f)) :
    tk_M f3 (upd a16 x 0) (upd a17 f ((a17 f - 1).toInt8.toInt32)) a20 := by
  obtain ⟨m1, m2, m3, m4⟩ := h
  refine ⟨m1, fun y hy => ?_, fun g hg => ?_, fun t ht => ?_⟩
  · by_cases e : y = x
    · rw [e, pk_us]
      exact Or.inl rfl
    · rw [pk_un e]
      exact m2 y hy
  · by_cases e : g = f
    · have hc := tk_cnt_sub (a := a16) (v := nI (1 + f)) (w := 0) hx hz (tk_ne0 (by omega)).symm
      have hl := tk_cnt_le a16 (nI (1 + f)) 24
      rw [e, pk_us, m3 f hf, ← hc, nI_pred, tk_b8 _ (by omega)]
    · rw [pk_un e, m3 g hg, tk_cnt_same 24 (by rw [hz]; exact tk_ne (by omega)) (tk_ne0 (by omega)).symm]
  · rw [m4 t ht, tk_cnt_same 24 (by rw [hz]; exact tk_ne (by omega)) (tk_ne0 (by omega)).symm]
theorem tk_M_fs {f3 : Int32} {a16 a17 a20 : Nat → Int32} {x s : Nat} (h : tk_M f3 a16 a17 a20) (hx : x < 24) (hs : s < 24) (hz : a16 x = nI (32 + s)) :
    tk_M f3 (upd a16 x 0) a17 (upd a20 s ((a20 s - 1).toInt8.toInt32)) := by
  obtain ⟨m1, m2, m3, m4⟩ := h
  refine ⟨m1, fun y hy => ?_, fun g hg => ?_, fun t ht => ?_⟩
  · by_cases e : y = x
    · rw [e, pk_us]
      exact Or.inl rfl
    · rw [pk_un e]
      exact m2 y hy
  · rw [m3 g hg, tk_cnt_same 24 (by rw [hz]; exact tk_ne (by omega)) (tk_ne0 (by omega)).symm]
  · by_cases e : t = s
    · have hc := tk_cnt_sub (a := a16) (v := nI (32 + s)) (w := 0) hx hz (tk_ne0 (by omega)).symm
      have hl := tk_cnt_le a16 (nI (32 + s)) 24
      rw [e, pk_us, m4 s hs, ← hc, nI_pred, tk_b8 _ (by omega)]
    · rw [pk_un e, m4 t ht, tk_cnt_same 24 (by rw [hz]; exact tk_ne (by omega)) (tk_ne0 (by omega)).symm]
end
section
/-! rows that meet a load or a store -/
theorem tk_st {x : Int32} {n : Nat} (k : Nat) {f : Nat → Int32} {v : Int32} (w : Int32) {P : (Nat → Int32) → Prop} (hx : x = nI k) (hk : k < n) (hv : v = w) (h : P (upd f k w)) (hn : n < 2 ^ 31 := by omega) : vp_in x n ∧ ∀ b, b = upd f x.toNatClampNeg v → P b := by
  subst hx hv
  refine ⟨vp_in_nI hk hn, fun b e => ?_⟩
  rw [nI_clamp (by omega)] at e
  rw [e]
  exact h
theorem tk_ld {x : Int32} {n : Nat} (k : Nat) {f : Nat → Int32} {v : Int32} {P : Int32 → Prop} (hx : x = nI k) (hk : k < n) (hv : f k = v) (h : P v) (hn : n < 2 ^ 31 := by omega) : vp_in x n ∧ ∀ y, y = f x.toNatClampNeg → P y := by
  subst hx
  refine ⟨vp_in_nI hk hn, fun y e => ?_⟩
  rw [nI_clamp (by omega), hv] at e
  rw [e]
  exact h
theorem tk_at {f : Nat → Int32} {k : Nat} {v : Int32} (h : f k = v) (hk : k < 2 ^ 31 := by omega) : f (nI k).toNatClampNeg = v := by
  rw [nI_clamp hk]
  exact h
theorem tk_ifr {x : Int32} {f : Nat → Int32} {v : Int32} {A B : Prop} (k : Nat) (t : f k = v → A) (e : ¬ f k = v → B) (hx : x = nI k := by rfl) (hk : k < 2 ^ 31 := by omega) : (f x.toNatClampNeg = v → A) ∧ (¬ f x.toNatClampNeg = v → B) := by
  subst hx
  rw [nI_clamp hk]
  exact ⟨t, e⟩
theorem tk_1a (f : Nat) : (1 : Int32) + nI f = nI (1 + f) := nI_add 1 f
theorem tk_32a (f : Nat) : (32 : Int32) + nI f = nI (32 + f) := nI_add 32 f
theorem tk_p1 (f : Nat) : nI (1 + f) - 1 = nI f := by
  rw [Nat.add_comm]
  exact nI_pred f
theorem tk_s32 (s : Nat) : nI (32 + s) - 32 = nI s := by
  have h := pk_sub (a := 32 + s) (b := 32) (by omega)
  rw [show 32 + s - 32 = s by omega] at h
  exact h
theorem tk_m8 (a : Nat) : (8 : Int32) * nI a = nI (8 * a) := pk_mul 8 a
theorem tk_i8 (a b : Nat) : (8 : Int32) * nI a + nI b = nI (8 * a + b) := by rw [tk_m8, nI_add]
theorem tk_m4 (a : Nat) : (4 : Int32) * nI a = nI (4 * a) := pk_mul 4 a
theorem tk_i4 (a b : Nat) : (4 : Int32) * nI a + nI b = nI (4 * a + b) := by rw [tk_m4, nI_add]
theorem tk_d8 {i : Nat} (h : i < 2 ^ 31) : nI i / 8 = nI (i / 8) := pk_div (d := 8) h (by omega) (by omega)
theorem tk_r8 {i : Nat} (h : i < 2 ^ 31) : nI i - nI i / 8 * 8 = nI (i % 8) := pk_rem (d := 8) h (by omega) (by omega)
/-! relabelled and copied arrays -/
theorem tk_rl_0 {a : Nat → Int32} {u w : Int32} : ∀ x, a x = if x < 0 ∧ a x = u then w else a x := fun x => by
  rw [if_neg (fun z => absurd z.1 (by omega))]
theorem tk_rl_i {a b : Nat → Int32} {u w : Int32} {i : Nat} (h : ∀ x, b x = if x < i ∧ a x = u then w else a x) : b i = a i := by
  rw [h i, if_neg (fun z => absurd z.1 (by omega))]
theorem tk_rl_s {a b : Nat → Int32} {u w : Int32} {i : Nat} (h : ∀ x, b x = if x < i ∧ a x = u then w else a x) (e : a i = u) : ∀ x, upd b i w x = if x < i + 1 ∧ a x = u then w else a x := fun x => by
  by_cases g : x = i
  · rw [g, pk_us, if_pos ⟨by omega, e⟩]
  · rw [pk_un g, h x]
    by_cases q : x < i ∧ a x = u
    · rw [if_pos q, if_pos ⟨by omega, q.2⟩]
    · rw [if_neg q, if_neg (fun z => q ⟨by omega, z.2⟩)]
theorem tk_rl_n {a b : Nat → Int32} {u w : Int32} {i : Nat} (h : ∀ x, b x = if x < i ∧ a x = u then w else a x) (e : ¬ a i = u) : ∀ x, b x = if x < i + 1 ∧ a x = u then w else a x := fun x => by
  rw [h x]
  by_cases q : x < i ∧ a x = u
  · rw [if_pos q, if_pos ⟨by omega, q.2⟩]
  · rw [if_neg q, if_neg (fun z => by
      by_cases g : x = i
      · exact e (g ▸ z.2)
      · exact q ⟨by omega, z.2⟩)]
theorem tk_rl_e {a b : Nat → Int32} {u w : Int32} {n : Nat} (h : ∀ x, b x = if x < n ∧ a x = u then w else a x) : ∀ x, x < n → b x = if a x = u then w else a x := fun x hx => by
  rw [h x]
  by_cases q : a x = u
  · rw [if_pos q, if_pos ⟨hx, q⟩]
  · rw [if_neg q, if_neg (fun z => q z.2)]
/-- b is a, but i places from d on are those of c from s on -/
def tk_cp (a b c : Nat → Int32) (d s i : Nat) : Prop := (∀ j, j < i → b (d + j) = c (s + j)) ∧ ∀ y, y < d ∨ d + i ≤ y → b y = a y
theorem tk_cp_0 {a c : Nat → Int32} {d s : Nat} : tk_cp a a c d s 0 := ⟨fun j hj => absurd hj (by omega), fun _ _ => rfl⟩
theorem tk_cp_s {a b c : Nat → Int32} {d s i : Nat} (h : tk_cp a b c d s i) : tk_cp a (upd b (d + i) (c (s + i))) c d s (i + 1) := by
  refine ⟨fun j hj => ?_, fun y hy => ?_⟩
  · by_cases e : j = i
    · rw [e, pk_us]
    · rw [pk_un (by omega)]
      exact h.1 j (by omega)
  · rw [pk_un (by omega)]
    exact h.2 y (by omega)
section
variable {f1 f2 f3 f4 : Int32} {f5 : Int64} {f6 f7 : Int32} {a1 a2 a3 a4 a5 a6 a7 a8 a9 a10 a11 a12 a13 a14 a15 a16 a17 a18 a19 a20 a21 a22 : Nat → Int32}
/-! the hand -/
theorem tk_choose {post : Int32 → St1 → Prop} (hh : ∃ h, h < 10 ∧ f3 = nI h) (H : ∀ v b18, v < 10 → nI v ≠ f4 → post (nI v) (f1, f2, nI v, f4, f5, f6, f7, a1, a2, a3, a4, a5, a6, a7, a8, a9, a10, a11, a12, a13, a14, a15, a16, a17, b18, a19, a20, a21, a22)) : wpX_chooseVictim post (f1, f2, f3, f4, f5, f6, f7, a1, a2, a3, a4, a5, a6, a7, a8, a9, a10, a11, a12, a13, a14, a15, a16, a17, a18, a19, a20, a21, a22) := by
  obtain ⟨h, hh, e3⟩ := hh
  subst e3
  refine loop_m (σ := Nat × (Nat → Int32)) (fun n s => wX_chooseVictim_0 post f1 f2 f4 f5 f6 f7 n (nI s.1) a1 a2 a3 a4 a5 a6 a7 a8 a9 a10 a11 a12 a13 a14 a15 a16 a17 s.2 a19 a20 a21 a22) (fun s => s.1 < 10) (fun s => 2 * (10 - tk_cnt s.2 0 10) + (if nI ((s.1 + 1) % 10) = f4 then 1 else 0)) ?_ (h, a18) hh
  rintro n ⟨k, b⟩ hk hw
  have hk' : k < 10 := hk
  have e1 : (nI k + 1) - (nI k + 1) / 10 * 10 = nI ((k + 1) % 10) := by
    rw [nI_1]
    exact pk_rem (a := k + 1) (d := 10) (by omega) (by omega) (by omega)
  show wX_chooseVictim_0 post f1 f2 f4 f5 f6 f7 (n + 1) (nI k) a1 a2 a3 a4 a5 a6 a7 a8 a9 a10 a11 a12 a13 a14 a15 a16 a17 b a19 a20 a21 a22
  refine ⟨by decide, nm_r e1 ?_⟩
  refine br_c (fun e => ?_) (fun e => ?_)
  · refine hw ((k + 1) % 10, b) (Nat.mod_lt _ (by omega)) ?_
    show 2 * (10 - tk_cnt b 0 10) + (if nI (((k + 1) % 10 + 1) % 10) = f4 then 1 else 0) < 2 * (10 - tk_cnt b 0 10) + (if nI ((k + 1) % 10) = f4 then 1 else 0)
    rw [if_pos e, if_neg (by rw [← e]; exact tk_ne (by omega))]
    omega
  · refine br_c (fun _ => H _ _ (by omega) e) (fun _ => ⟨pk_in ((k + 1) % 10) 10 (by omega), ?_⟩)
    refine tk_ifr ((k + 1) % 10) (fun _ => H _ _ (by omega) e) (fun z => tk_st ((k + 1) % 10) 0 rfl (by omega) rfl ?_)
    refine hw ((k + 1) % 10, upd b ((k + 1) % 10) 0) (Nat.mod_lt _ (by omega)) ?_
    show 2 * (10 - tk_cnt (upd b ((k + 1) % 10) 0) 0 10) + (if nI (((k + 1) % 10 + 1) % 10) = f4 then 1 else 0) < 2 * (10 - tk_cnt b 0 10) + (if nI ((k + 1) % 10) = f4 then 1 else 0)
    have hl := tk_cnt_le (upd b ((k + 1) % 10) 0) 0 10
    rw [tk_cnt_add (by omega) z] at hl ⊢
    rw [if_neg e]
    split <;> omega
/-! a frame is moved out -/
theorem tk_mv74 {post : St1 → Prop} {f s : Nat} (hf : f < 10) (hs : s < 24) (H : ∀ b16, (∀ x, x < 24 → b16 x = if a16 x = nI (1 + f) then nI (32 + s) else a16 x) → post (f1, f2, f3, f4, f5, f6, f7, a1, a2, a3, a4, a5, a6, a7, a8, a9, a10, a11, a12, a13, a14, a15, b16, a17, a18, a19, a20, a21, a22)) :
    ∃ n, wX_moveOut_74 post (nI f) (nI s) f1 f2 f3 f4 f5 f6 f7 n 0 a1 a2 a3 a4 a5 a6 a7 a8 a9 a10 a11 a12 a13 a14 a15 a16 a17 a18 a19 a20 a21 a22 := by
  refine pk_loop (fun n i b => wX_moveOut_74 post (nI f) (nI s) f1 f2 f3 f4 f5 f6 f7 n (nI i) a1 a2 a3 a4 a5 a6 a7 a8 a9 a10 a11 a12 a13 a14 a15 b a17 a18 a19 a20 a21 a22) (fun i b => ∀ x, b x = if x < i ∧ a16 x = nI (1 + f) then nI (32 + s) else a16 x) 24 0 a16 (by omega) tk_rl_0
    (fun n b h => pk_le 24 24 (fun _ => H b (tk_rl_e h)) (fun z => absurd z (by omega)))
    (fun n i b hi h hw => pk_le 24 i (fun z => absurd z (by omega)) (fun _ => ⟨pk_in i 24 hi, ?_⟩))
  refine ek_if (d := a16 i = nI (1 + f)) (by rw [nI_clamp (by omega), tk_rl_i h, tk_1a]) (fun e => ?_) (fun e => ?_)
  · exact tk_st i (nI (32 + s)) rfl hi (by rw [tk_32a, tk_b8 _ (by omega)]) (nm_r (nI_1 i) (hw _ (tk_rl_s h e)))
  · exact nm_r (nI_1 i) (hw _ (tk_rl_n h e))
theorem tk_mv19 {post : St1 → Prop} {f s c : Nat} (hf : f < 10) (hs : s < 24) (hc : a17 f = nI c) (hc' : c < 128)
    (H : ∀ b16 b21, (∀ x, x < 24 → b16 x = if a16 x = nI (1 + f) then nI (32 + s) else a16 x) → tk_cp a21 b21 a19 (8 * s) (8 * f) 8 → post (f1, f2, f3, f4, f5, f6, f7, a1, a2, a3, a4, a5, a6, a7, a8, a9, a10, a11, a12, a13, a14, a15, b16, upd a17 f 0, a18, a19, upd a20 s (a17 f), b21, a22)) :
    ∃ n, wX_moveOut_19 post (nI f) (nI s) f1 f2 f3 f4 f5 f6 f7 n 0 a1 a2 a3 a4 a5 a6 a7 a8 a9 a10 a11 a12 a13 a14 a15 a16 a17 a18 a19 a20 a21 a22 := by
  refine pk_loop (fun n i b => wX_moveOut_19 post (nI f) (nI s) f1 f2 f3 f4 f5 f6 f7 n (nI i) a1 a2 a3 a4 a5 a6 a7 a8 a9 a10 a11 a12 a13 a14 a15 a16 a17 a18 a19 a20 b a22) (fun i b => tk_cp a21 b a19 (8 * s) (8 * f) i) 8 0 a21 (by omega) tk_cp_0
    (fun n b h => pk_le 8 8 (fun _ => ⟨pk_in f 10 hf, ?_⟩) (fun z => absurd z (by omega)))
    (fun n i b hi h hw => pk_le 8 i (fun z => absurd z (by omega)) (fun _ => ⟨pk_in (8 * f + i) 80 (by omega) (tk_i8 f i), ?_⟩))
  · exact tk_st s (a17 f) rfl hs (by rw [nI_clamp (by omega), hc, tk_nar hc']) (tk_st f 0 rfl hf rfl (tk_mv74 hf hs (fun b16 hb => H b16 b hb h)))
  · exact tk_st (8 * s + i) (a19 (8 * f + i)) (tk_i8 s i) (by omega) (by rw [tk_i8, nI_clamp (by omega)]) (nm_r (nI_1 i) (hw _ (tk_cp_s h)))
theorem tk_moveOut {post : St1 → Prop} {f : Nat} (hM : tk_M f3 a16 a17 a20) (hf : f < 10) (hc : 0 < tk_cnt a16 (nI (1 + f)) 24)
    (H : ∀ s b16 b21, s < 24 → tk_cnt a16 (nI (32 + s)) 24 = 0 → (∀ x, x < 24 → b16 x = if a16 x = nI (1 + f) then nI (32 + s) else a16 x) → tk_cp a21 b21 a19 (8 * s) (8 * f) 8 → post (f1, f2, f3, f4, f5, f6, f7, a1, a2, a3, a4, a5, a6, a7, a8, a9, a10, a11, a12, a13, a14, a15, b16, upd a17 f 0, a18, a19, upd a20 s (a17 f), b21, a22)) :
    wpX_moveOut post (f1, f2, f3, f4, f5, f6, f7, a1, a2, a3, a4, a5, a6, a7, a8, a9, a10, a11, a12, a13, a14, a15, a16, a17, a18, a19, a20, a21, a22) (nI f) := by
  obtain ⟨s, ⟨hs, h0⟩, hl⟩ := pk_least (fun s => s < 24 ∧ tk_cnt a16 (nI (32 + s)) 24 = 0) (tk_pig hf hc)
  obtain ⟨m1, m2, m3, m4⟩ := hM
  refine pk_loop (σ := Unit) (fun n i _ => wX_moveOut_2 post (nI f) f1 f2 f3 f4 f5 f6 f7 a1 a2 a3 a4 a5 a6 a7 a8 a9 a10 a11 a12 a13 a14 a15 a16 a17 a18 a19 a20 a21 a22 n (nI i)) (fun _ _ => True) s 0 () (by omega) trivial
    (fun n _ _ => ⟨pk_in s 24 hs, ?_⟩) (fun n i _ hi _ hw => ⟨pk_in i 24 (by omega), ?_⟩)
  · have hcl := tk_cnt_le a16 (nI (1 + f)) 24
    exact pk_le 0 0 (fun _ => tk_mv19 hf hs (m3 f hf) (by omega) (fun b16 b21 h1 h2 => H s b16 b21 hs h0 h1 h2)) (fun z => absurd z (by omega)) (tk_at (by rw [m4 s hs, h0]))
  · have hcl := tk_cnt_le a16 (nI (32 + i)) 24
    have hne : tk_cnt a16 (nI (32 + i)) 24 ≠ 0 := fun z => hl i hi ⟨by omega, z⟩
    exact pk_le (tk_cnt a16 (nI (32 + i)) 24) 0 (fun z => absurd z (by omega)) (fun _ => nm_r (nI_1 i) (hw () trivial)) (tk_at (m4 i (by omega)))
/-! a free frame -/
def tk_nf (f4 : Int32) (f : Nat) (a16 b16 : Nat → Int32) : Prop := tk_cnt b16 (nI (1 + f)) 24 = 0 ∧ (∀ g x, g < 10 → x < 24 → f4 = nI g → a16 x = nI (1 + g) → b16 x = a16 x) ∧ (∀ x, x < 24 → a16 x = 0 → b16 x = 0) ∧ (∀ x s, x < 24 → s < 24 → a16 x = nI (32 + s) → b16 x = a16 x)
theorem tk_newFrame {post : Int32 → St1 → Prop} {w : Nat → Nat → Int32} (hN : tk_N f3 a16 a17 a19 a20 a21 w)
    (H : ∀ f h b16 b17 b18 b20 b21, f < 10 → tk_N h b16 b17 a19 b20 b21 w → tk_nf f4 f a16 b16 → post (nI f) (f1, f2, h, f4, f5, f6, f7, a1, a2, a3, a4, a5, a6, a7, a8, a9, a10, a11, a12, a13, a14, a15, b16, b17, b18, a19, b20, b21, a22)) : wpX_newFrame post (f1, f2, f3, f4, f5, f6, f7, a1, a2, a3, a4, a5, a6, a7, a8, a9, a10, a11, a12, a13, a14, a15, a16, a17, a18, a19, a20, a21, a22) := by
  have hM := hN.1
  obtain ⟨m1, m2, m3, m4⟩ := hN.1
  by_cases hx : ∃ k, k < 10 ∧ tk_cnt a16 (nI (1 + k)) 24 = 0
  · obtain ⟨f, ⟨hf, h0⟩, hl⟩ := pk_least (fun k => k < 10 ∧ tk_cnt a16 (nI (1 + k)) 24 = 0) hx
    refine pk_loop (σ := Unit) (fun n i _ => wX_newFrame_2 post f1 f2 f3 f4 f5 f6 f7 a1 a2 a3 a4 a5 a6 a7 a8 a9 a10 a11 a12 a13 a14 a15 a16 a17 a18 a19 a20 a21 a22 n (nI i)) (fun _ _ => True) f 0 () (by omega) trivial
      (fun n _ _ => pk_le 10 f (fun z => absurd z (by omega)) (fun _ => ⟨pk_in f 10 hf, ?_⟩)) (fun n i _ hi _ hw => pk_le 10 i (fun z => absurd z (by omega)) (fun _ => ⟨pk_in i 10 (by omega), ?_⟩))
    · exact pk_le 0 0 (fun _ => tk_st f 1 rfl hf rfl (H f f3 a16 a17 _ a20 a21 hf hN ⟨h0, fun _ _ _ _ _ _ => rfl, fun _ _ z => z, fun _ _ _ _ _ => rfl⟩)) (fun z => absurd z (by omega)) (tk_at (by rw [m3 f hf, h0]))
    · have hcl := tk_cnt_le a16 (nI (1 + i)) 24
      have hne : tk_cnt a16 (nI (1 + i)) 24 ≠ 0 := fun z => hl i hi ⟨by omega, z⟩
      exact pk_le (tk_cnt a16 (nI (1 + i)) 24) 0 (fun z => absurd z (by omega)) (fun _ => nm_r (nI_1 i) (hw () trivial)) (tk_at (m3 i (by omega)))
  · refine pk_loop (σ := Unit) (fun n i _ => wX_newFrame_2 post f1 f2 f3 f4 f5 f6 f7 a1 a2 a3 a4 a5 a6 a7 a8 a9 a10 a11 a12 a13 a14 a15 a16 a17 a18 a19 a20 a21 a22 n (nI i)) (fun _ _ => True) 10 0 () (by omega) trivial
      (fun n _ _ => pk_le 10 10 (fun _ => ?_) (fun z => absurd z (by omega))) (fun n i _ hi _ hw => pk_le 10 i (fun z => absurd z (by omega)) (fun _ => ⟨pk_in i 10 (by omega), ?_⟩))
    · refine tk_choose m1 (fun v b18 hv hp => ?_)
      have hc : 0 < tk_cnt a16 (nI (1 + v)) 24 := by
        rcases Nat.eq_zero_or_pos (tk_cnt a16 (nI (1 + v)) 24) with z | z
        · exact absurd ⟨v, hv, z⟩ hx
        · exact z
      have hN' : tk_N (nI v) a16 a17 a19 a20 a21 w := ⟨⟨⟨v, hv, rfl⟩, m2, m3, m4⟩, hN.2⟩
      refine tk_moveOut hN'.1 hv hc (fun s b16 b21 hs h0 hb hcp => ?_)
      refine tk_st v 1 rfl hv rfl (H v (nI v) b16 _ _ _ b21 hv (tk_N_mv hN' hv hs h0 hb hcp.1 hcp.2) ⟨(tk_cnt_rl hb h0 (tk_ne (by omega))).2.1, fun g x hg hx' e4 ex => ?_, fun x hx' ex => ?_, fun x t hx' ht ex => ?_⟩)
      · rw [hb x hx', if_neg (fun z => hp (by rw [e4]; exact congrArg nI (by have := tk_inj (z.symm.trans ex); omega)))]
      · rw [hb x hx', if_neg (by rw [ex]; exact (tk_ne0 (by omega)).symm), ex]
      · rw [hb x hx', if_neg (by rw [ex]; exact tk_ne (by omega))]
    · have hcl := tk_cnt_le a16 (nI (1 + i)) 24
      have hne : tk_cnt a16 (nI (1 + i)) 24 ≠ 0 := fun z => hx ⟨i, by omega, z⟩
      exact pk_le (tk_cnt a16 (nI (1 + i)) 24) 0 (fun z => absurd z (by omega)) (fun _ => nm_r (nI_1 i) (hw () trivial)) (tk_at (m3 i (by omega)))
/-! the frame of a page -/
theorem tk_fr106 {post : Int32 → St1 → Prop} {f s : Nat} (hf : f < 10) (hs : s < 24) (H : ∀ b16, (∀ x, x < 24 → b16 x = if a16 x = nI (32 + s) then nI (1 + f) else a16 x) → post (nI f) (f1, f2, f3, f4, f5, f6, f7, a1, a2, a3, a4, a5, a6, a7, a8, a9, a10, a11, a12, a13, a14, a15, b16, a17, a18, a19, a20, a21, a22)) :
    ∃ n, wX_frameOf_106 post (nI s) (nI f) f1 f2 f3 f4 f5 f6 f7 n 0 a1 a2 a3 a4 a5 a6 a7 a8 a9 a10 a11 a12 a13 a14 a15 a16 a17 a18 a19 a20 a21 a22 := by
  refine pk_loop (fun n i b => wX_frameOf_106 post (nI s) (nI f) f1 f2 f3 f4 f5 f6 f7 n (nI i) a1 a2 a3 a4 a5 a6 a7 a8 a9 a10 a11 a12 a13 a14 a15 b a17 a18 a19 a20 a21 a22) (fun i b => ∀ x, b x = if x < i ∧ a16 x = nI (32 + s) then nI (1 + f) else a16 x) 24 0 a16 (by omega) tk_rl_0
    (fun n b h => pk_le 24 24 (fun _ => H b (tk_rl_e h)) (fun z => absurd z (by omega)))
    (fun n i b hi h hw => pk_le 24 i (fun z => absurd z (by omega)) (fun _ => ⟨pk_in i 24 hi, ?_⟩))
  refine ek_if (d := a16 i = nI (32 + s)) (by rw [nI_clamp (by omega), tk_rl_i h, tk_32a]) (fun e => ?_) (fun e => ?_)
  · exact tk_st i (nI (1 + f)) rfl hi (by rw [tk_1a, tk_b8 _ (by omega)]) (nm_r (nI_1 i) (hw _ (tk_rl_s h e)))
  · exact nm_r (nI_1 i) (hw _ (tk_rl_n h e))
theorem tk_fr47 {post : Int32 → St1 → Prop} {f s c : Nat} (hf : f < 10) (hs : s < 24) (hc : a20 s = nI c) (hc' : c < 128)
    (H : ∀ b16 b19, (∀ x, x < 24 → b16 x = if a16 x = nI (32 + s) then nI (1 + f) else a16 x) → tk_cp a19 b19 a21 (8 * f) (8 * s) 8 → post (nI f) (f1, f2, f3, f4, f5, f6, f7, a1, a2, a3, a4, a5, a6, a7, a8, a9, a10, a11, a12, a13, a14, a15, b16, upd a17 f (a20 s), a18, b19, upd a20 s 0, a21, a22)) :
    ∃ n, wX_frameOf_47 post (nI s) (nI f) f1 f2 f3 f4 f5 f6 f7 n 0 a1 a2 a3 a4 a5 a6 a7 a8 a9 a10 a11 a12 a13 a14 a15 a16 a17 a18 a19 a20 a21 a22 := by
  refine pk_loop (fun n i b => wX_frameOf_47 post (nI s) (nI f) f1 f2 f3 f4 f5 f6 f7 n (nI i) a1 a2 a3 a4 a5 a6 a7 a8 a9 a10 a11 a12 a13 a14 a15 a16 a17 a18 b a20 a21 a22) (fun i b => tk_cp a19 b a21 (8 * f) (8 * s) i) 8 0 a19 (by omega) tk_cp_0
    (fun n b h => pk_le 8 8 (fun _ => ⟨pk_in s 24 hs, ?_⟩) (fun z => absurd z (by omega)))
    (fun n i b hi h hw => pk_le 8 i (fun z => absurd z (by omega)) (fun _ => ⟨pk_in (8 * s + i) 192 (by omega) (tk_i8 s i), ?_⟩))
  · exact tk_st f (a20 s) rfl hf (by rw [nI_clamp (by omega), hc, tk_nar hc']) (tk_st s 0 rfl hs rfl (tk_fr106 hf hs (fun b16 hb => H b16 b hb h)))
  · exact tk_st (8 * f + i) (a21 (8 * s + i)) (tk_i8 f i) (by omega) (by rw [tk_i8, nI_clamp (by omega)]) (nm_r (nI_1 i) (hw _ (tk_cp_s h)))
theorem tk_frameOf {post : Int32 → St1 → Prop} {w : Nat → Nat → Int32} {x : Nat} (hx : x < 24) (hN : tk_N f3 a16 a17 a19 a20 a21 w) (hne : a16 x ≠ 0)
    (H : ∀ f h b16 b17 b18 b19 b20 b21, f < 10 → tk_N h b16 b17 b19 b20 b21 w → b16 x = nI (1 + f) → (∀ y, y < 24 → a16 y = 0 → b16 y = 0) → post (nI f) (f1, f2, h, f4, f5, f6, f7, a1, a2, a3, a4, a5, a6, a7, a8, a9, a10, a11, a12, a13, a14, a15, b16, b17, b18, b19, b20, b21, a22)) :
    wpX_frameOf post (f1, f2, f3, f4, f5, f6, f7, a1, a2, a3, a4, a5, a6, a7, a8, a9, a10, a11, a12, a13, a14, a15, a16, a17, a18, a19, a20, a21, a22) (nI x) := by
  rcases hN.1.2.1 x hx with z | ⟨f, hf, z⟩ | ⟨s, hs, z⟩
  · exact absurd z hne
  · refine ⟨pk_in x 24 hx, pk_le 32 (1 + f) (fun q => absurd q (by omega)) (fun _ => ⟨pk_in x 24 hx, nm_r (e' := nI f) (by rw [tk_at z, tk_p1]) ?_⟩) (hy := tk_at z)⟩
    exact tk_st f 1 rfl hf rfl (H f f3 a16 a17 _ a19 a20 a21 hf hN z (fun _ _ e => e))
  · refine ⟨pk_in x 24 hx, pk_le 32 (32 + s) (fun _ => ⟨pk_in x 24 hx, nm_r (e' := nI s) (by rw [tk_at z, tk_s32]) ?_⟩) (fun q => absurd q (by omega)) (hy := tk_at z)⟩
    refine tk_newFrame hN (fun f h b16 b17 b18 b20 b21 hf hN' hnf => ?_)
    have hcl := tk_cnt_le b16 (nI (32 + s)) 24
    refine tk_fr47 hf hs (hN'.1.2.2.2 s hs) (by omega) (fun c16 c19 hb hcp => H f h c16 _ b18 c19 _ b21 hf (tk_N_fr hN' hf hs hnf.1 hb hcp.1 hcp.2) ?_ (fun y hy ey => ?_))
    · rw [hb x hx, if_pos (by rw [hnf.2.2.2 x s hx hs z, z])]
    · rw [hb y hy, if_neg (by rw [hnf.2.2.1 y hy ey]; exact (tk_ne0 (by omega)).symm), hnf.2.2.1 y hy ey]
theorem tk_readWord {post : Int32 → St1 → Prop} {w : Nat → Nat → Int32} {p i : Nat} (hp : p < 6) (hi : i < 32) (hN : tk_N f3 a16 a17 a19 a20 a21 w)
    (H : ∀ h b16 b17 b18 b19 b20 b21, tk_N h b16 b17 b19 b20 b21 w → (∀ y, y < 24 → a16 y = 0 → b16 y = 0) → post (w (4 * p + i / 8) (i % 8)) (f1, f2, h, f4, f5, f6, f7, a1, a2, a3, a4, a5, a6, a7, a8, a9, a10, a11, a12, a13, a14, a15, b16, b17, b18, b19, b20, b21, a22)) :
    wpX_readWord post (f1, f2, f3, f4, f5, f6, f7, a1, a2, a3, a4, a5, a6, a7, a8, a9, a10, a11, a12, a13, a14, a15, a16, a17, a18, a19, a20, a21, a22) (nI p) (nI i) := by
  refine ⟨by decide, nm_r (e' := nI (4 * p + i / 8)) (by rw [tk_d8 (by omega), tk_i4]) ⟨pk_in (4 * p + i / 8) 24 (by omega), ?_⟩⟩
  refine tk_ifr (4 * p + i / 8) (fun z => ?_) (fun z => ?_)
  · have e := hN.2 (4 * p + i / 8) (i % 8) (by omega) (by omega)
    rw [tk_W0 z] at e
    have h := H f3 a16 a17 a18 a19 a20 a21 hN (fun _ _ q => q)
    rw [← e] at h
    exact h
  · refine tk_frameOf (by omega) hN z (fun f h b16 b17 b18 b19 b20 b21 hf hN' e hz => ?_)
    refine ⟨by decide, pk_in (8 * f + i % 8) 80 (by omega) (by rw [tk_r8 (by omega), tk_i8]), ?_⟩
    have e' := hN'.2 (4 * p + i / 8) (i % 8) (by omega) (by omega)
    rw [tk_Wf hf e] at e'
    rw [tk_r8 (by omega), tk_i8, nI_clamp (by omega), e']
    exact H h b16 b17 b18 b19 b20 b21 hN' hz
end
end
section
section
variable {f1 f2 f3 f4 : Int32} {f5 : Int64} {f6 f7 : Int32} {a1 a2 a3 a4 a5 a6 a7 a8 a9 a10 a11 a12 a13 a14 a15 a16 a17 a18 a19 a20 a21 a22 : Nat → Int32}
theorem tk_hang {post : St1 → Prop} {x f : Nat} (hx : x < 24) (hf : f < 10) (H : post (f1, f2, f3, f4, f5, f6, f7, a1, a2, a3, a4, a5, a6, a7, a8, a9, a10, a11, a12, a13, a14, a15, upd a16 x (nI (1 + f)), upd a17 f 1, a18, a19, a20, a21, a22)) : wpX_hang post (f1, f2, f3, f4, f5, f6, f7, a1, a2, a3, a4, a5, a6, a7, a8, a9, a10, a11, a12, a13, a14, a15, a16, a17, a18, a19, a20, a21, a22) (nI x) (nI f) :=
  tk_st x (nI (1 + f)) rfl hx (by rw [tk_1a, tk_b8 _ (by omega)]) (tk_st f 1 rfl hf rfl H)
theorem tk_ww103 {post : St1 → Prop} {i f : Nat} {v : Int32} (hi : i < 32) (hf : f < 10) (H : ∀ b19, post (f1, f2, f3, f4, f5, f6, f7, a1, a2, a3, a4, a5, a6, a7, a8, a9, a10, a11, a12, a13, a14, a15, a16, a17, a18, b19, a20, a21, a22)) : wX_writeWord_103 post (nI i) v (nI f) f1 f2 f3 f4 f5 f6 f7 a1 a2 a3 a4 a5 a6 a7 a8 a9 a10 a11 a12 a13 a14 a15 a16 a17 a18 a19 a20 a21 a22 :=
  ⟨by decide, tk_st (8 * f + i % 8) v (by rw [tk_r8 (by omega), tk_i8]) (by omega) rfl (H _)⟩
theorem tk_own18 {post : Int32 → St1 → Prop} {x f g : Nat} (hx : x < 24) (hf : f < 10) (hg : g < 10) (H : ∀ b19, post (nI f) (f1, f2, f3, f4, f5, f6, f7, a1, a2, a3, a4, a5, a6, a7, a8, a9, a10, a11, a12, a13, a14, a15, upd a16 x (nI (1 + f)), upd (upd a17 g ((a17 g - 1).toInt8.toInt32)) f 1, a18, b19, a20, a21, a22)) :
    ∃ n, wX_ownFrame_18 post (nI x) (nI g) (nI f) f1 f2 f3 f4 f5 f6 f7 n 0 a1 a2 a3 a4 a5 a6 a7 a8 a9 a10 a11 a12 a13 a14 a15 a16 a17 a18 a19 a20 a21 a22 :=
  pk_loop (fun n i b => wX_ownFrame_18 post (nI x) (nI g) (nI f) f1 f2 f3 f4 f5 f6 f7 n (nI i) a1 a2 a3 a4 a5 a6 a7 a8 a9 a10 a11 a12 a13 a14 a15 a16 a17 a18 b a20 a21 a22) (fun _ _ => True) 8 0 a19 (by omega) trivial
    (fun n b _ => pk_le 8 8 (fun _ => ⟨pk_in g 10 hg, tk_st g ((a17 g - 1).toInt8.toInt32) rfl hg (by rw [nI_clamp (by omega)]) (tk_hang hx hf (H b))⟩) (fun z => absurd z (by omega)))
    (fun n i b hi _ hw => pk_le 8 i (fun z => absurd z (by omega)) (fun _ => ⟨pk_in (8 * g + i) 80 (by omega) (tk_i8 g i), tk_st (8 * f + i) _ (tk_i8 f i) (by omega) rfl (nm_r (nI_1 i) (hw _ trivial))⟩))
theorem tk_ownFrame {post : Int32 → St1 → Prop} {x g : Nat} (hx : x < 24) (hg : g < 10) (hM : tk_M f3 a16 a17 a20) (hz : a16 x = nI (1 + g))
    (H : ∀ f h b16 b17 b18 b19 b20 b21, f < 10 → tk_M h b16 b17 b20 → (∀ y, y < 24 → y ≠ x → a16 y = 0 → b16 y = 0) → post (nI f) (f1, f2, h, (-1), f5, f6, f7, a1, a2, a3, a4, a5, a6, a7, a8, a9, a10, a11, a12, a13, a14, a15, b16, b17, b18, b19, b20, b21, a22)) :
    wpX_ownFrame post (f1, f2, f3, f4, f5, f6, f7, a1, a2, a3, a4, a5, a6, a7, a8, a9, a10, a11, a12, a13, a14, a15, a16, a17, a18, a19, a20, a21, a22) (nI x) (nI g) := by
  refine tk_newFrame (f4 := nI g) (tk_N_of hM) (fun f h b16 b17 b18 b20 b21 hf hN' hnf => ?_)
  have e : b16 x = nI (1 + g) := by rw [hnf.2.1 g x hg hx rfl hz, hz]
  refine tk_own18 hx hf hg (fun b19 => H f h _ _ b18 b19 b20 b21 hf (tk_M_h1 hN'.1 hx hf hg hnf.1 e) (fun y hy hyx ey => ?_))
  rw [pk_un hyx]
  exact hnf.2.2.1 y hy ey
theorem tk_ww36 {post : St1 → Prop} {x i f : Nat} {v : Int32} (hx : x < 24) (hi : i < 32) (hf : f < 10) (H : ∀ b19, post (f1, f2, f3, f4, f5, f6, f7, a1, a2, a3, a4, a5, a6, a7, a8, a9, a10, a11, a12, a13, a14, a15, upd a16 x (nI (1 + f)), upd a17 f 1, a18, b19, a20, a21, a22)) :
    ∃ n, wX_writeWord_36 post (nI i) v (nI x) (nI f) f1 f2 f3 f4 f5 f6 f7 n (nI (8 * f)) a1 a2 a3 a4 a5 a6 a7 a8 a9 a10 a11 a12 a13 a14 a15 a16 a17 a18 a19 a20 a21 a22 :=
  pk_loop (fun n k b => wX_writeWord_36 post (nI i) v (nI x) (nI f) f1 f2 f3 f4 f5 f6 f7 n (nI k) a1 a2 a3 a4 a5 a6 a7 a8 a9 a10 a11 a12 a13 a14 a15 a16 a17 a18 b a20 a21 a22) (fun k _ => 8 * f ≤ k) (8 * f + 8) (8 * f) a19 (by omega) (Nat.le_refl _)
    (fun n b _ => pk_le (8 * f + 8) (8 * f + 8) (fun _ => tk_hang hx hf (tk_ww103 hi hf H)) (fun z => absurd z (by omega)) (tk_i8 f 8))
    (fun n k b hk hk' hw => pk_le (8 * f + 8) k (fun z => absurd z (by omega)) (fun _ => tk_st k 0 rfl (by omega) rfl (nm_r (nI_1 k) (hw _ (Nat.le_succ_of_le hk')))) (tk_i8 f 8))
theorem tk_writeWord {post : St1 → Prop} {p i : Nat} {v : Int32} (hp : p < 6) (hi : i < 32) (hM : tk_M f3 a16 a17 a20)
    (H : ∀ h g4 b16 b17 b18 b19 b20 b21, tk_M h b16 b17 b20 → (∀ y, y < 24 → y ≠ 4 * p + i / 8 → a16 y = 0 → b16 y = 0) → post (f1, f2, h, g4, f5, f6, f7, a1, a2, a3, a4, a5, a6, a7, a8, a9, a10, a11, a12, a13, a14, a15, b16, b17, b18, b19, b20, b21, a22)) :
    wpX_writeWord post (f1, f2, f3, f4, f5, f6, f7, a1, a2, a3, a4, a5, a6, a7, a8, a9, a10, a11, a12, a13, a14, a15, a16, a17, a18, a19, a20, a21, a22) (nI p) (nI i) v := by
  refine ⟨by decide, nm_r (e' := nI (4 * p + i / 8)) (by rw [tk_d8 (by omega), tk_i4]) ⟨pk_in (4 * p + i / 8) 24 (by omega), ?_⟩⟩
  refine tk_ifr (4 * p + i / 8) (fun z => ?_) (fun z => ?_)
  · refine tk_newFrame (tk_N_of hM) (fun f h b16 b17 b18 b20 b21 hf hN' hnf => nm_r (tk_m8 f) ?_)
    refine tk_ww36 (by omega) hi hf (fun b19 => H h f4 _ _ b18 b19 b20 b21 (tk_M_h0 hN'.1 (by omega) hf hnf.1 (hnf.2.2.1 _ (by omega) z)) (fun y hy hyx ey => ?_))
    rw [pk_un hyx]
    exact hnf.2.2.1 y hy ey
  · refine tk_frameOf (by omega) (tk_N_of hM) z (fun f h b16 b17 b18 b19 b20 b21 hf hN' e hz => ⟨pk_in f 10 hf, ?_⟩)
    refine br_c (fun _ => tk_ww103 hi hf (fun c19 => H h f4 b16 b17 b18 c19 b20 b21 hN'.1 (fun y hy _ ey => hz y hy ey))) (fun _ => ?_)
    refine tk_ownFrame (by omega) hf hN'.1 e (fun f' h' c16 c17 c18 c19 c20 c21 hf' hM' hz' => ?_)
    exact tk_ww103 hi hf' (fun d19 => H h' _ c16 c17 c18 d19 c20 c21 hM' (fun y hy hyx ey => hz' y hy hyx (hz y hy ey)))
/-! sharing, copying and freeing pages -/
theorem tk_sharePage {post : St1 → Prop} {x y : Nat} (hx : x < 24) (hy : y < 24) (hxy : x ≠ y) (hM : tk_M f3 a16 a17 a20) (hz : a16 y = 0)
    (H : ∀ b16 b17 b20, tk_M f3 b16 b17 b20 → (∀ z, z ≠ y → b16 z = a16 z) → post (f1, f2, f3, f4, f5, f6, f7, a1, a2, a3, a4, a5, a6, a7, a8, a9, a10, a11, a12, a13, a14, a15, b16, b17, a18, a19, b20, a21, a22)) : wpX_sharePage post (f1, f2, f3, f4, f5, f6, f7, a1, a2, a3, a4, a5, a6, a7, a8, a9, a10, a11, a12, a13, a14, a15, a16, a17, a18, a19, a20, a21, a22) (nI x) (nI y) := by
  rcases hM.2.1 x hx with e | ⟨f, hf, e⟩ | ⟨s, hs, e⟩
  · have e' : upd a16 y 0 x = 0 := by rw [pk_un hxy, e]
    refine ⟨pk_in x 24 hx, tk_st y 0 rfl hy (by rw [tk_at e]; exact tk_nar (c := 0) (by omega)) ⟨pk_in x 24 hx, ?_⟩⟩
    refine pk_lt 0 32 (fun _ => ⟨pk_in x 24 hx, pk_le 0 0 (fun _ => ?_) (fun q => absurd q (by omega)) (tk_at e')⟩) (fun q => absurd q (by omega)) (tk_at e')
    exact H _ _ _ (tk_M_f0 hM hy hz) (fun z hz' => by rw [pk_un hz'])
  · have e' : upd a16 y (nI (1 + f)) x = nI (1 + f) := by rw [pk_un hxy, e]
    refine ⟨pk_in x 24 hx, tk_st y (nI (1 + f)) rfl hy (by rw [tk_at e]; exact tk_nar (by omega)) ⟨pk_in x 24 hx, ?_⟩⟩
    refine pk_lt (1 + f) 32 (fun _ => ⟨pk_in x 24 hx, pk_le (1 + f) 0 (fun q => absurd q (by omega)) (fun _ => ⟨pk_in x 24 hx, ?_⟩) (tk_at e')⟩) (fun q => absurd q (by omega)) (tk_at e')
    have e2 : upd a16 y (nI (1 + f)) (nI x).toNatClampNeg - 1 = nI f := by rw [tk_at e', tk_p1]
    refine ⟨pk_in f 10 hf e2, tk_st f ((a17 f + 1).toInt8.toInt32) e2 hf (by rw [e2, nI_clamp (by omega)]) ?_⟩
    exact H _ _ _ (tk_M_sf hM hy hf hz) (fun z hz' => by rw [pk_un hz'])
  · have e' : upd a16 y (nI (32 + s)) x = nI (32 + s) := by rw [pk_un hxy, e]
    refine ⟨pk_in x 24 hx, tk_st y (nI (32 + s)) rfl hy (by rw [tk_at e]; exact tk_nar (by omega)) ⟨pk_in x 24 hx, ?_⟩⟩
    refine pk_lt (32 + s) 32 (fun q => absurd q (by omega)) (fun _ => ⟨pk_in x 24 hx, ?_⟩) (tk_at e')
    have e2 : upd a16 y (nI (32 + s)) (nI x).toNatClampNeg - 32 = nI s := by rw [tk_at e', tk_s32]
    refine ⟨pk_in s 24 hs e2, tk_st s ((a20 s + 1).toInt8.toInt32) e2 hs (by rw [e2, nI_clamp (by omega)]) ?_⟩
    exact H _ _ _ (tk_M_ss hM hy hs hz) (fun z hz' => by rw [pk_un hz'])
theorem tk_cp42 {post : St1 → Prop} {y f g : Nat} (hy : y < 24) (hf : f < 10) (hg : g < 10) (H : ∀ b19, post (f1, f2, f3, f4, f5, f6, f7, a1, a2, a3, a4, a5, a6, a7, a8, a9, a10, a11, a12, a13, a14, a15, upd a16 y (nI (1 + f)), upd a17 f 1, a18, b19, a20, a21, a22)) :
    ∃ n, wX_copyPage_42 post (nI y) (nI g) (nI f) f1 f2 f3 f4 f5 f6 f7 n 0 a1 a2 a3 a4 a5 a6 a7 a8 a9 a10 a11 a12 a13 a14 a15 a16 a17 a18 a19 a20 a21 a22 :=
  pk_loop (fun n i b => wX_copyPage_42 post (nI y) (nI g) (nI f) f1 f2 f3 f4 f5 f6 f7 n (nI i) a1 a2 a3 a4 a5 a6 a7 a8 a9 a10 a11 a12 a13 a14 a15 a16 a17 a18 b a20 a21 a22) (fun _ _ => True) 8 0 a19 (by omega) trivial
    (fun n b _ => pk_le 8 8 (fun _ => tk_hang hy hf (H b)) (fun z => absurd z (by omega)))
    (fun n i b hi _ hw => pk_le 8 i (fun z => absurd z (by omega)) (fun _ => ⟨pk_in (8 * g + i) 80 (by omega) (tk_i8 g i), tk_st (8 * f + i) _ (tk_i8 f i) (by omega) rfl (nm_r (nI_1 i) (hw _ trivial))⟩))
theorem tk_copyPage {post : St1 → Prop} {x y : Nat} (hx : x < 24) (hy : y < 24) (hxy : x ≠ y) (hM : tk_M f3 a16 a17 a20) (hz : a16 y = 0)
    (H : ∀ h g4 b16 b17 b18 b19 b20 b21, tk_M h b16 b17 b20 → (∀ z, z < 24 → z ≠ y → a16 z = 0 → b16 z = 0) → post (f1, f2, h, g4, f5, f6, f7, a1, a2, a3, a4, a5, a6, a7, a8, a9, a10, a11, a12, a13, a14, a15, b16, b17, b18, b19, b20, b21, a22)) :
    wpX_copyPage post (f1, f2, f3, f4, f5, f6, f7, a1, a2, a3, a4, a5, a6, a7, a8, a9, a10, a11, a12, a13, a14, a15, a16, a17, a18, a19, a20, a21, a22) (nI x) (nI y) := by
  have e0 : upd a16 y 0 = a16 := by
    funext k
    by_cases e : k = y
    · rw [e, pk_us, hz]
    · rw [pk_un e]
  refine tk_st y 0 rfl hy rfl ?_
  rw [e0]
  refine ⟨pk_in x 24 hx, tk_ifr x (fun z => H _ _ _ _ _ _ _ _ hM (fun _ _ _ q => q)) (fun z => ?_)⟩
  refine tk_frameOf hx (tk_N_of hM) z (fun g h b16 b17 b18 b19 b20 b21 hg hN' e hz' => ?_)
  refine tk_newFrame (f4 := nI g) hN' (fun f h' c16 c17 c18 c20 c21 hf hN'' hnf => ?_)
  refine tk_cp42 hy hf hg (fun c19 => H h' _ _ _ c18 c19 c20 c21 (tk_M_h0 hN''.1 hy hf hnf.1 (hnf.2.2.1 y hy (hz' y hy hz))) (fun k hk hky ek => ?_))
  rw [pk_un hky]
  exact hnf.2.2.1 k hk (hz' k hk ek)
theorem tk_freePages {post : St1 → Prop} {p : Nat} (hp : p < 6) (hM : tk_M f3 a16 a17 a20)
    (H : ∀ b16 b17 b20, tk_M f3 b16 b17 b20 → (∀ k, k < 4 → b16 (4 * p + k) = 0) → (∀ y, y < 4 * p ∨ 4 * p + 4 ≤ y → b16 y = a16 y) → post (f1, f2, f3, f4, f5, f6, f7, a1, a2, a3, a4, a5, a6, a7, a8, a9, a10, a11, a12, a13, a14, a15, b16, b17, a18, a19, b20, a21, a22)) : wpX_freePages post (f1, f2, f3, f4, f5, f6, f7, a1, a2, a3, a4, a5, a6, a7, a8, a9, a10, a11, a12, a13, a14, a15, a16, a17, a18, a19, a20, a21, a22) (nI p) := by
  refine nm_r (tk_m4 p) ?_
  refine pk_loop (σ := (Nat → Int32) × (Nat → Int32) × (Nat → Int32)) (fun n i s => wX_freePages_4 post (nI p) f1 f2 f3 f4 f5 f6 f7 n (nI i) a1 a2 a3 a4 a5 a6 a7 a8 a9 a10 a11 a12 a13 a14 a15 s.1 s.2.1 a18 a19 s.2.2 a21 a22)
    (fun i s => 4 * p ≤ i ∧ tk_M f3 s.1 s.2.1 s.2.2 ∧ (∀ y, 4 * p ≤ y → y < i → s.1 y = 0) ∧ (∀ y, y < 4 * p ∨ i ≤ y → s.1 y = a16 y)) (4 * p + 4) (4 * p) (a16, a17, a20) (by omega) ⟨Nat.le_refl _, hM, fun y h1 h2 => absurd h1 (by omega), fun _ _ => rfl⟩ ?_ ?_
  · rintro n ⟨c16, c17, c20⟩ ⟨h0, h1, h2, h3⟩
    exact pk_le (4 * p + 4) (4 * p + 4) (fun _ => H c16 c17 c20 h1 (fun k hk => h2 _ (by omega) (by omega)) h3) (fun z => absurd z (by omega)) (tk_i4 p 4)
  · rintro n i ⟨c16, c17, c20⟩ hi ⟨h0, h1, h2, h3⟩ hw
    have h0' : 4 * p ≤ i := h0
    replace h1 : tk_M f3 c16 c17 c20 := h1
    replace h2 : ∀ y, 4 * p ≤ y → y < i → c16 y = 0 := h2
    replace h3 : ∀ y, y < 4 * p ∨ i ≤ y → c16 y = a16 y := h3
    have K : ∀ y, 4 * p ≤ y → y < i + 1 → upd c16 i 0 y = 0 := fun y hy hy' => by
      by_cases e : y = i
      · rw [e, pk_us]
      · rw [pk_un e]
        exact h2 y hy (by omega)
    have K' : ∀ y, y < 4 * p ∨ i + 1 ≤ y → upd c16 i 0 y = a16 y := fun y hy => by
      rw [pk_un (by omega)]
      exact h3 y (by omega)
    refine pk_le (4 * p + 4) i (fun z => absurd z (by omega)) (fun _ => ⟨pk_in i 24 (by omega), ?_⟩) (tk_i4 p 4)
    rcases h1.2.1 i (by omega) with e | ⟨f, hf, e⟩ | ⟨s, hs, e⟩
    · refine pk_lt 0 32 (fun _ => ⟨pk_in i 24 (by omega), pk_le 0 0 (fun _ => ?_) (fun q => absurd q (by omega)) (tk_at e)⟩) (fun q => absurd q (by omega)) (tk_at e)
      exact tk_st i 0 rfl (by omega) rfl (nm_r (nI_1 i) (hw (upd c16 i 0, c17, c20) ⟨by omega, tk_M_f0 h1 (by omega) e, K, K'⟩))
    · refine pk_lt (1 + f) 32 (fun _ => ⟨pk_in i 24 (by omega), pk_le (1 + f) 0 (fun q => absurd q (by omega)) (fun _ => ⟨pk_in i 24 (by omega), ?_⟩) (tk_at e)⟩) (fun q => absurd q (by omega)) (tk_at e)
      have e2 : c16 (nI i).toNatClampNeg - 1 = nI f := by rw [tk_at e, tk_p1]
      refine ⟨pk_in f 10 hf e2, tk_st f ((c17 f - 1).toInt8.toInt32) e2 hf (by rw [e2, nI_clamp (by omega)]) ?_⟩
      exact tk_st i 0 rfl (by omega) rfl (nm_r (nI_1 i) (hw (upd c16 i 0, _, c20) ⟨by omega, tk_M_ff h1 (by omega) hf e, K, K'⟩))
    · refine pk_lt (32 + s) 32 (fun q => absurd q (by omega)) (fun _ => ⟨pk_in i 24 (by omega), ?_⟩) (tk_at e)
      have e2 : c16 (nI i).toNatClampNeg - 32 = nI s := by rw [tk_at e, tk_s32]
      refine ⟨pk_in s 24 hs e2, tk_st s ((c20 s - 1).toInt8.toInt32) e2 hs (by rw [e2, nI_clamp (by omega)]) ?_⟩
      exact tk_st i 0 rfl (by omega) rfl (nm_r (nI_1 i) (hw (upd c16 i 0, c17, _) ⟨by omega, tk_M_fs h1 (by omega) hs e, K, K'⟩))
end
end
section
/-- the chain that begins with v is the list -/
def tk_ch (a : Nat → Int32) : Int32 → List Nat → Prop
  | v, [] => v = -1
  | v, x :: t => v = nI x ∧ tk_ch a (a x) t
/-- the last of a list, -1 where there is none -/
def tk_la : List Nat → Int32
  | [] => -1
  | [x] => nI x
  | _ :: y :: t => tk_la (y :: t)
/-- the queue: a chain of different processes, each of which is in S -/
def tk_Q (f1 f2 : Int32) (a10 : Nat → Int32) (S : Nat → Prop) : Prop := ∃ l : List Nat, tk_ch a10 f1 l ∧ f2 = tk_la l ∧ l.Nodup ∧ ∀ x, x ∈ l → S x
theorem tk_Q_mono {f1 f2 : Int32} {a10 : Nat → Int32} {S T : Nat → Prop} (h : tk_Q f1 f2 a10 S) (hs : ∀ x, S x → T x) : tk_Q f1 f2 a10 T := by
  obtain ⟨l, h1, h2, h3, h4⟩ := h
  exact ⟨l, h1, h2, h3, fun x hx => hs x (h4 x hx)⟩
theorem tk_ch_un {a : Nat → Int32} {y : Nat} {w : Int32} : ∀ (l : List Nat) (v : Int32), tk_ch a v l → y ∉ l → tk_ch (upd a y w) v l
  | [], _, h, _ => h
  | x :: t, v, h, hy => by
    refine ⟨h.1, ?_⟩
    rw [pk_un (fun e => hy (by rw [e]; exact List.mem_cons_self))]
    exact tk_ch_un t _ h.2 (fun z => hy (List.mem_cons_of_mem _ z))
theorem tk_ch_set {a : Nat → Int32} {x : Nat} {v : Int32} {l m : List Nat} : ∀ (t : List Nat) (s : Int32), tk_ch a s (t ++ x :: l) → x ∉ t → tk_ch (upd a x v) v m → tk_ch (upd a x v) s (t ++ x :: m)
  | [], s, h, _, h2 => by
    refine ⟨h.1, ?_⟩
    rw [pk_us]
    exact h2
  | y :: t, s, h, hx, h2 => by
    refine ⟨h.1, ?_⟩
    rw [pk_un (fun e => hx (by rw [e]; exact List.mem_cons_self))]
    exact tk_ch_set t _ h.2 (fun z => hx (List.mem_cons_of_mem _ z)) h2
theorem tk_snoc : ∀ l : List Nat, l = [] ∨ ∃ t x, l = t ++ [x]
  | [] => Or.inl rfl
  | y :: l => by
    rcases tk_snoc l with e | ⟨t, x, e⟩
    · exact Or.inr ⟨[], y, by rw [e]; rfl⟩
    · exact Or.inr ⟨y :: t, x, by rw [e]; rfl⟩
theorem tk_la_c (x : Nat) : ∀ r : List Nat, r ≠ [] → tk_la (x :: r) = tk_la r
  | [], h => absurd rfl h
  | _ :: _, _ => rfl
theorem tk_la_a (x : Nat) (r : List Nat) : ∀ t : List Nat, tk_la (t ++ x :: r) = tk_la (x :: r)
  | [] => rfl
  | y :: t => by
    show tk_la (y :: (t ++ x :: r)) = tk_la (x :: r)
    rw [tk_la_c y _ (by intro e; cases t <;> cases e)]
    exact tk_la_a x r t
theorem tk_la_m (r : List Nat) (h : r ≠ []) : ∃ y, y ∈ r ∧ tk_la r = nI y := by
  rcases tk_snoc r with e | ⟨t, x, e⟩
  · exact absurd e h
  · refine ⟨x, by rw [e]; exact List.mem_append_right _ List.mem_cons_self, ?_⟩
    rw [e, tk_la_a]
    rfl
theorem tk_nar_ch {a : Nat → Int32} {v : Int32} {l : List Nat} (h : tk_ch a v l) (hl : ∀ x, x ∈ l → x < 6) : vp_nar .byte v = v := by
  cases l with
  | nil =>
    have e : v = -1 := h
    rw [e, vp_nar_byte]
    decide
  | cons x t =>
    rw [h.1]
    have := hl x List.mem_cons_self
    exact tk_nar (by omega)
section
variable {f1 f2 f3 f4 : Int32} {f5 : Int64} {f6 f7 : Int32} {a1 a2 a3 a4 a5 a6 a7 a8 a9 a10 a11 a12 a13 a14 a15 a16 a17 a18 a19 a20 a21 a22 : Nat → Int32}
theorem tk_enqueue {post : St1 → Prop} {p : Nat} {S : Nat → Prop} (hp : p < 6) (hQ : tk_Q f1 f2 a10 S) (hS : ∀ x, S x → x < 6) (hn : ¬ S p)
    (H : ∀ k g2 b10, k < 6 → tk_Q (nI k) g2 b10 (fun x => S x ∨ x = p) → post (nI k, g2, f3, f4, f5, f6, f7, a1, a2, a3, a4, a5, a6, a7, a8, a9, b10, a11, a12, a13, a14, a15, a16, a17, a18, a19, a20, a21, a22)) : wpX_enqueue post (f1, f2, f3, f4, f5, f6, f7, a1, a2, a3, a4, a5, a6, a7, a8, a9, a10, a11, a12, a13, a14, a15, a16, a17, a18, a19, a20, a21, a22) (nI p) := by
  obtain ⟨l, h1, h2, h3, h4⟩ := hQ
  have hpl : p ∉ l := fun z => hn (h4 p z)
  refine tk_st p (-1) rfl hp rfl ?_
  rcases tk_snoc l with e | ⟨t, x, e⟩
  · subst e
    refine br_t (by rw [h2]; decide) (H p _ _ hp ⟨[p], ⟨rfl, pk_us⟩, rfl, List.nodup_cons.mpr ⟨List.not_mem_nil, List.nodup_nil⟩, fun x hx => Or.inr (List.mem_singleton.mp hx)⟩)
  · have ex : tk_la l = nI x := by
      rw [e, tk_la_a]
      rfl
    have hxl : x ∈ l := by
      rw [e]
      exact List.mem_append_right _ List.mem_cons_self
    have hx6 := hS x (h4 x hxl)
    have hxp : p ≠ x := fun z => hpl (by rw [z]; exact hxl)
    have e1 : ∃ k, k < 6 ∧ f1 = nI k := by
      cases l with
      | nil => cases hxl
      | cons y s => exact ⟨y, hS y (h4 y List.mem_cons_self), h1.1⟩
    obtain ⟨k, hk, ek⟩ := e1
    refine br_f (by rw [h2, ex]; exact nI_pos (by omega)) (tk_st x (nI p) (by rw [h2, ex]) hx6 (tk_b8 p (by omega)) ?_)
    have hxt : x ∉ t := fun z => by
      rw [e] at h3
      exact (List.nodup_append.mp h3).2.2 x z x List.mem_cons_self rfl
    have hch : tk_ch (upd (upd a10 p (-1)) x (nI p)) (nI k) (t ++ x :: [p]) := by
      refine tk_ch_set (l := []) t _ ?_ hxt ⟨rfl, by rw [pk_un hxp, pk_us]; rfl⟩
      rw [← e, ← ek]
      exact tk_ch_un l f1 h1 hpl
    have el : t ++ x :: [p] = l ++ [p] := by
      rw [e, List.append_assoc]
      rfl
    have key := H k (nI p) _ hk ⟨t ++ x :: [p], hch, by rw [tk_la_a]; rfl, by
      rw [el]
      exact List.nodup_append.mpr ⟨h3, List.nodup_cons.mpr ⟨List.not_mem_nil, List.nodup_nil⟩, fun a ha b hb z => hpl (by rw [← List.mem_singleton.mp hb, ← z]; exact ha)⟩, fun y hy => by
      rw [el] at hy
      rcases List.mem_append.mp hy with q | q
      · exact Or.inl (h4 y q)
      · exact Or.inr (List.mem_singleton.mp q)⟩
    rw [← ek] at key
    exact key
theorem tk_dequeue {post : Int32 → St1 → Prop} {S : Nat → Prop} (hQ : tk_Q f1 f2 a10 S) (hS : ∀ x, S x → x < 6)
    (H0 : f1 = -1 → post (-1) (f1, f2, f3, f4, f5, f6, f7, a1, a2, a3, a4, a5, a6, a7, a8, a9, a10, a11, a12, a13, a14, a15, a16, a17, a18, a19, a20, a21, a22)) (H : ∀ p g1 g2, f1 = nI p → S p → tk_Q g1 g2 a10 (fun x => S x ∧ x ≠ p) → post (nI p) (g1, g2, f3, f4, f5, f6, f7, a1, a2, a3, a4, a5, a6, a7, a8, a9, a10, a11, a12, a13, a14, a15, a16, a17, a18, a19, a20, a21, a22)) : wpX_dequeue post (f1, f2, f3, f4, f5, f6, f7, a1, a2, a3, a4, a5, a6, a7, a8, a9, a10, a11, a12, a13, a14, a15, a16, a17, a18, a19, a20, a21, a22) := by
  obtain ⟨l, h1, h2, h3, h4⟩ := hQ
  cases l with
  | nil =>
    have e : f1 = -1 := h1
    exact br_f (by rw [e]; decide) (H0 e)
  | cons p t =>
    obtain ⟨e, h1'⟩ := h1
    subst e
    have hp := hS p (h4 p List.mem_cons_self)
    have hnd := List.nodup_cons.mp h3
    have hall : ∀ x, x ∈ t → S x ∧ x ≠ p := fun x hx => ⟨h4 x (List.mem_cons_of_mem _ hx), fun z => hnd.1 (by rw [← z]; exact hx)⟩
    refine br_t (nI_pos' (by omega)) (tk_ld p rfl hp rfl ?_)
    cases t with
    | nil =>
      have e : a10 p = -1 := h1'
      exact br_f (by rw [e]; decide) (H p _ _ rfl (h4 p List.mem_cons_self) ⟨[], h1', rfl, List.nodup_nil, fun x hx => hall x hx⟩)
    | cons y s =>
      have hy := hS y (h4 y (List.mem_cons_of_mem _ List.mem_cons_self))
      exact br_t (by rw [h1'.1]; exact nI_pos' (by omega)) (H p _ _ rfl (h4 p List.mem_cons_self) ⟨y :: s, h1', h2, hnd.2, hall⟩)
theorem tk_leave {post : St1 → Prop} {p : Nat} {S : Nat → Prop} (hp : p < 6) (hQ : tk_Q f1 f2 a10 S) (hS : ∀ x, S x → x < 6)
    (H : ∀ g1 g2 b10, tk_Q g1 g2 b10 (fun x => S x ∧ x ≠ p) → post (g1, g2, f3, f4, f5, f6, f7, a1, a2, a3, a4, a5, a6, a7, a8, a9, b10, a11, a12, a13, a14, a15, a16, a17, a18, a19, a20, a21, a22)) : wpX_leaveQueue post (f1, f2, f3, f4, f5, f6, f7, a1, a2, a3, a4, a5, a6, a7, a8, a9, a10, a11, a12, a13, a14, a15, a16, a17, a18, a19, a20, a21, a22) (nI p) := by
  obtain ⟨l, h1, h2, h3, h4⟩ := hQ
  have key : ∀ (m t : List Nat) (v : Int32), l = t ++ m → p ∉ t → tk_ch a10 v m → ∃ n, wX_leaveQueue_7 post (nI p) f1 f2 f3 f4 f5 f6 f7 a1 a2 a3 a4 a5 a6 a7 a8 a9 a10 a11 a12 a13 a14 a15 a16 a17 a18 a19 a20 a21 a22 n (tk_la t) v := by
    intro m
    induction m with
    | nil =>
      intro t v el hpt hc
      have e : v = -1 := hc
      refine ⟨1, br_t (by rw [e]; decide) (br_f (by rw [e]; decide) (H _ _ _ ⟨l, h1, h2, h3, fun x hx => ⟨h4 x hx, fun z => hpt ?_⟩⟩))⟩
      rw [el, List.append_nil] at hx
      rw [← z]
      exact hx
    | cons x m ih =>
      intro t v el hpt hc
      have hxl : x ∈ l := by
        rw [el]
        exact List.mem_append_right _ List.mem_cons_self
      have hx6 := hS x (h4 x hxl)
      have hnd : (t ++ x :: m).Nodup := by
        rw [← el]
        exact h3
      have hndm := List.nodup_cons.mp (List.nodup_append.mp hnd).2.1
      have htm : ∀ y, y ∈ t → y ∉ x :: m := fun y hy z => (List.nodup_append.mp hnd).2.2 y hy y z rfl
      obtain ⟨ev, hc'⟩ := hc
      by_cases e : x = p
      · subst e
        have hm6 : ∀ y, y ∈ m → y < 6 := fun y hy => hS y (h4 y (by rw [el]; exact List.mem_append_right _ (List.mem_cons_of_mem _ hy)))
        have hS' : ∀ y, y ∈ t ++ m → S y ∧ y ≠ x := fun y hy => by
          rcases List.mem_append.mp hy with q | q
          · exact ⟨h4 y (by rw [el]; exact List.mem_append_left _ q), fun z => hpt (by rw [← z]; exact q)⟩
          · exact ⟨h4 y (by rw [el]; exact List.mem_append_right _ (List.mem_cons_of_mem _ q)), fun z => hndm.1 (by rw [← z]; exact q)⟩
        have hndtm : (t ++ m).Nodup := List.nodup_append.mpr ⟨(List.nodup_append.mp hnd).1, hndm.2, fun a ha b hb z => htm a ha (List.mem_cons_of_mem _ (by rw [z]; exact hb))⟩
        have h2' : f2 = tk_la (x :: m) := by rw [h2, el, tk_la_a]
        refine ⟨1, br_f (by rw [ev]; exact nI_pos (by omega)) (br_t ev ?_)⟩
        refine br_t (by rw [ev]; exact nI_pos' (by omega)) ?_
        have fin : ∀ g1 b10, tk_ch b10 g1 (t ++ m) → wX_leaveQueue_62 post (nI x) (tk_la t) g1 f2 f3 f4 f5 f6 f7 a1 a2 a3 a4 a5 a6 a7 a8 a9 b10 a11 a12 a13 a14 a15 a16 a17 a18 a19 a20 a21 a22 := fun g1 b10 hch => by
          refine br_c (fun e2 => ?_) (fun e2 => ?_)
          · have em : m = [] := by
              refine Classical.byContradiction (fun hm => ?_)
              obtain ⟨y, hy, ey⟩ := tk_la_m m hm
              rw [h2', tk_la_c x m hm, ey] at e2
              have hy6 := hm6 y hy
              have := tk_inj e2
              exact hndm.1 (by rw [← this]; exact hy)
            refine H _ _ _ ⟨t ++ m, hch, ?_, hndtm, hS'⟩
            rw [em, List.append_nil]
          · have em : m ≠ [] := fun z => e2 (by rw [h2', z]; rfl)
            refine H _ _ _ ⟨t ++ m, hch, ?_, hndtm, hS'⟩
            rw [h2', tk_la_c x m em]
            cases m with
            | nil => exact absurd rfl em
            | cons y s => rw [tk_la_a]
        rcases tk_snoc t with et | ⟨t', b, et⟩
        · have e1 : ¬ (0 : Int32) ≤ tk_la t := by
            rw [et]
            decide
          refine br_f e1 (tk_ld x rfl hx6 rfl (fin (a10 x) a10 ?_))
          rw [et]
          exact hc'
        · have eb : tk_la t = nI b := by
            rw [et, tk_la_a]
            rfl
          have hbt : b ∈ t := by
            rw [et]
            exact List.mem_append_right _ List.mem_cons_self
          have hb6 : b < 6 := hS b (h4 b (by rw [el]; exact List.mem_append_left _ hbt))
          have hbt' : b ∉ t' := fun z => by
            have q := (List.nodup_append.mp hnd).1
            rw [et] at q
            exact (List.nodup_append.mp q).2.2 b z b List.mem_cons_self rfl
          refine br_t (by rw [eb]; exact nI_pos' (by omega)) ⟨pk_in x 6 hx6, tk_st b (a10 x) eb hb6 (by rw [nI_clamp (by omega), tk_nar_ch hc' hm6]) (fin f1 _ ?_)⟩
          have q : tk_ch a10 f1 (t' ++ b :: (x :: m)) := by
            have q1 := h1
            rw [el, et, List.append_assoc] at q1
            exact q1
          have q2 := tk_ch_set (v := a10 x) (m := m) t' f1 q hbt' (tk_ch_un m _ hc' (fun z => htm b hbt (List.mem_cons_of_mem _ z)))
          rw [et, List.append_assoc]
          exact q2
      · obtain ⟨n, hn⟩ := ih (t ++ [x]) (a10 x) (by rw [el, List.append_assoc]; rfl) (fun z => by
          rcases List.mem_append.mp z with q | q
          · exact hpt q
          · exact e (List.mem_singleton.mp q).symm) hc'
        have ela : tk_la (t ++ [x]) = nI x := by
          rw [tk_la_a]
          rfl
        rw [ela] at hn
        subst ev
        refine ⟨n + 1, br_f (nI_pos (by omega)) (br_f (tk_ne (by omega)) (tk_ld x rfl hx6 rfl hn))⟩
  exact key l [] f1 rfl List.not_mem_nil h1
end
end
section
/-- descriptors and pipes -/
def tk_D (a9 a11 a12 a14 a15 : Nat → Int32) : Prop := (∀ x, x < 24 → ∃ k, k < 7 ∧ a9 x = nI k) ∧ ∀ k, k < 3 → a14 k = nI (tk_cnt a9 (nI (1 + 2 * k)) 24) ∧ a15 k = nI (tk_cnt a9 (nI (2 + 2 * k)) 24) ∧ (∃ s, s < 4 ∧ a11 k = nI s) ∧ (∃ c, c < 5 ∧ a12 k = nI c)
theorem tk_u0 {a : Nat → Int32} {x : Nat} {v : Int32} (h : a x = v) : upd a x v = a := by
  funext y
  by_cases e : y = x
  · rw [e, pk_us, h]
  · rw [pk_un e]
theorem tk_D_clR {a9 a11 a12 a14 a15 : Nat → Int32} {x k : Nat} (h : tk_D a9 a11 a12 a14 a15) (hx : x < 24) (hk : k < 3) (e : a9 x = nI (1 + 2 * k)) : tk_D (upd a9 x 0) a11 a12 (upd a14 k ((a14 k + (-1)).toInt8.toInt32)) a15 := by
  obtain ⟨d1, d2⟩ := h
  refine ⟨fun y hy => ?_, fun j hj => ?_⟩
  · by_cases ey : y = x
    · exact ⟨0, by omega, by rw [ey, pk_us]; rfl⟩
    · rw [pk_un ey]
      exact d1 y hy
  · obtain ⟨r, w, s, c⟩ := d2 j hj
    refine ⟨?_, ?_, s, c⟩
    · by_cases ej : j = k
      · subst ej
        have hc := tk_cnt_sub (a := a9) (v := nI (1 + 2 * j)) (w := 0) hx e (tk_ne0 (by omega)).symm
        have hl := tk_cnt_le a9 (nI (1 + 2 * j)) 24
        rw [pk_us, r, ← hc, pk_m1, tk_b8 _ (by omega)]
      · rw [pk_un ej, r, tk_cnt_same 24 (by rw [e]; exact tk_ne (by omega)) (tk_ne0 (by omega)).symm]
    · rw [w, tk_cnt_same 24 (by rw [e]; exact tk_ne (by omega)) (tk_ne0 (by omega)).symm]
theorem tk_D_clW {a9 a11 a12 a14 a15 : Nat → Int32} {x k : Nat} (h : tk_D a9 a11 a12 a14 a15) (hx : x < 24) (hk : k < 3) (e : a9 x = nI (2 + 2 * k)) : tk_D (upd a9 x 0) a11 a12 a14 (upd a15 k ((a15 k + (-1)).toInt8.toInt32)) := by
  obtain ⟨d1, d2⟩ := h
  refine ⟨fun y hy => ?_, fun j hj => ?_⟩
  · by_cases ey : y = x
    · exact ⟨0, by omega, by rw [ey, pk_us]; rfl⟩
    · rw [pk_un ey]
      exact d1 y hy
  · obtain ⟨r, w, s, c⟩ := d2 j hj
    refine ⟨?_, ?_, s, c⟩
    · rw [r, tk_cnt_same 24 (by rw [e]; exact tk_ne (by omega)) (tk_ne0 (by omega)).symm]
    · by_cases ej : j = k
      · subst ej
        have hc := tk_cnt_sub (a := a9) (v := nI (2 + 2 * j)) (w := 0) hx e (tk_ne0 (by omega)).symm
        have hl := tk_cnt_le a9 (nI (2 + 2 * j)) 24
        rw [pk_us, w, ← hc, pk_m1, tk_b8 _ (by omega)]
      · rw [pk_un ej, w, tk_cnt_same 24 (by rw [e]; exact tk_ne (by omega)) (tk_ne0 (by omega)).symm]
theorem tk_D_opR {a9 a11 a12 a14 a15 : Nat → Int32} {x k : Nat} (h : tk_D a9 a11 a12 a14 a15) (hx : x < 24) (hk : k < 3) (e : a9 x = 0) : tk_D (upd a9 x (nI (1 + 2 * k))) a11 a12 (upd a14 k ((a14 k + 1).toInt8.toInt32)) a15 := by
  obtain ⟨d1, d2⟩ := h
  refine ⟨fun y hy => ?_, fun j hj => ?_⟩
  · by_cases ey : y = x
    · exact ⟨1 + 2 * k, by omega, by rw [ey, pk_us]⟩
    · rw [pk_un ey]
      exact d1 y hy
  · obtain ⟨r, w, s, c⟩ := d2 j hj
    refine ⟨?_, ?_, s, c⟩
    · by_cases ej : j = k
      · subst ej
        have hl := tk_cnt_le a9 (nI (1 + 2 * j)) 24
        rw [pk_us, r, tk_cnt_add hx (by rw [e]; exact (tk_ne0 (by omega)).symm), nI_1, tk_b8 _ (by omega)]
      · rw [pk_un ej, r, tk_cnt_same 24 (by rw [e]; exact (tk_ne0 (by omega)).symm) (tk_ne (by omega))]
    · rw [w, tk_cnt_same 24 (by rw [e]; exact (tk_ne0 (by omega)).symm) (tk_ne (by omega))]
theorem tk_D_opW {a9 a11 a12 a14 a15 : Nat → Int32} {x k : Nat} (h : tk_D a9 a11 a12 a14 a15) (hx : x < 24) (hk : k < 3) (e : a9 x = 0) : tk_D (upd a9 x (nI (2 + 2 * k))) a11 a12 a14 (upd a15 k ((a15 k + 1).toInt8.toInt32)) := by
  obtain ⟨d1, d2⟩ := h
  refine ⟨fun y hy => ?_, fun j hj => ?_⟩
  · by_cases ey : y = x
    · exact ⟨2 + 2 * k, by omega, by rw [ey, pk_us]⟩
    · rw [pk_un ey]
      exact d1 y hy
  · obtain ⟨r, w, s, c⟩ := d2 j hj
    refine ⟨?_, ?_, s, c⟩
    · rw [r, tk_cnt_same 24 (by rw [e]; exact (tk_ne0 (by omega)).symm) (tk_ne (by omega))]
    · by_cases ej : j = k
      · subst ej
        have hl := tk_cnt_le a9 (nI (2 + 2 * j)) 24
        rw [pk_us, w, tk_cnt_add hx (by rw [e]; exact (tk_ne0 (by omega)).symm), nI_1, tk_b8 _ (by omega)]
      · rw [pk_un ej, w, tk_cnt_same 24 (by rw [e]; exact (tk_ne0 (by omega)).symm) (tk_ne (by omega))]
theorem tk_D_12 {a9 a11 a12 a14 a15 : Nat → Int32} {k c : Nat} (h : tk_D a9 a11 a12 a14 a15) (hc : c < 5) : tk_D a9 a11 (upd a12 k (nI c)) a14 a15 := by
  refine ⟨h.1, fun j hj => ?_⟩
  obtain ⟨r, w, s, c'⟩ := h.2 j hj
  refine ⟨r, w, s, ?_⟩
  by_cases e : j = k
  · exact ⟨c, hc, by rw [e, pk_us]⟩
  · rw [pk_un e]
    exact c'
theorem tk_D_11 {a9 a11 a12 a14 a15 : Nat → Int32} {k c : Nat} (h : tk_D a9 a11 a12 a14 a15) (hc : c < 4) : tk_D a9 (upd a11 k (nI c)) a12 a14 a15 := by
  refine ⟨h.1, fun j hj => ?_⟩
  obtain ⟨r, w, s, c'⟩ := h.2 j hj
  refine ⟨r, w, ?_, c'⟩
  by_cases e : j = k
  · exact ⟨c, hc, by rw [e, pk_us]⟩
  · rw [pk_un e]
    exact s
theorem tk_D_mk {a9 a11 a12 a14 a15 : Nat → Int32} {x y k : Nat} (h : tk_D a9 a11 a12 a14 a15) (hx : x < 24) (hy : y < 24) (hxy : y ≠ x) (hk : k < 3) (ex : a9 x = 0) (ey : a9 y = 0)
    (r0 : tk_cnt a9 (nI (1 + 2 * k)) 24 = 0) (w0 : tk_cnt a9 (nI (2 + 2 * k)) 24 = 0) :
    tk_D (upd (upd a9 x (nI (1 + 2 * k))) y (nI (2 + 2 * k))) (upd a11 k 0) (upd a12 k 0) (upd a14 k 1) (upd a15 k 1) := by
  have h1 := tk_D_opR h hx hk ex
  have h2 := tk_D_opW h1 hy hk (by rw [pk_un hxy, ey])
  obtain ⟨r, w, _, _⟩ := h.2 k hk
  rw [r, r0, w, w0] at h2
  exact tk_D_12 (c := 0) (tk_D_11 (c := 0) h2 (by omega)) (by omega)
theorem tk_and1 {n : Nat} (h : n < 2 ^ 31) : nI n &&& 1 = nI (n % 2) := pk_andN (by omega) 1 (by decide)
theorem tk_and3 {n : Nat} (h : n < 2 ^ 31) : nI n &&& 3 = nI (n % 4) := pk_andN (by omega) 2 (by decide)
theorem tk_half {n k : Nat} (hn : n = 1 + 2 * k ∨ n = 2 + 2 * k) (hk : k < 3) : (nI n - 1) / 2 = nI k := by
  obtain ⟨m, rfl⟩ : ∃ m, n = m + 1 := ⟨n - 1, by omega⟩
  rw [nI_pred]
  have h := pk_div (a := m) (d := 2) (by omega) (by omega) (by omega)
  rw [show m / 2 = k by omega] at h
  exact h
theorem tk_end7 {n : Nat} (h : n < 7) (h0 : n ≠ 0) : ∃ k, k < 3 ∧ (n = 1 + 2 * k ∨ n = 2 + 2 * k) := ⟨(n - 1) / 2, by omega, by omega⟩
section
variable {f1 f2 f3 f4 : Int32} {f5 : Int64} {f6 f7 : Int32} {a1 a2 a3 a4 a5 a6 a7 a8 a9 a10 a11 a12 a13 a14 a15 a16 a17 a18 a19 a20 a21 a22 : Nat → Int32}
theorem tk_isR {post : Int32 → Prop} {n : Nat} (hn : n < 2 ^ 31) (H0 : n % 2 = 0 → post 0) (H1 : n % 2 = 1 → post 1) : wpX_isReading post (f1, f2, f3, f4, f5, f6, f7, a1, a2, a3, a4, a5, a6, a7, a8, a9, a10, a11, a12, a13, a14, a15, a16, a17, a18, a19, a20, a21, a22) (nI n) :=
  pk_eq (n % 2) 0 (fun z => H0 z) (fun z => H1 (by omega)) (tk_and1 hn)
theorem tk_pipeOf {post : Int32 → Prop} {n k : Nat} (hn : n = 1 + 2 * k ∨ n = 2 + 2 * k) (hk : k < 3) (H : post (nI k)) : wpX_pipeOf post (f1, f2, f3, f4, f5, f6, f7, a1, a2, a3, a4, a5, a6, a7, a8, a9, a10, a11, a12, a13, a14, a15, a16, a17, a18, a19, a20, a21, a22) (nI n) :=
  ⟨by decide, by rw [tk_half hn hk]; exact H⟩
theorem tk_count0 {post : St1 → Prop} {m : Int32} (H : post (f1, f2, f3, f4, f5, f6, f7, a1, a2, a3, a4, a5, a6, a7, a8, a9, a10, a11, a12, a13, a14, a15, a16, a17, a18, a19, a20, a21, a22)) : wpX_countEnd post (f1, f2, f3, f4, f5, f6, f7, a1, a2, a3, a4, a5, a6, a7, a8, a9, a10, a11, a12, a13, a14, a15, a16, a17, a18, a19, a20, a21, a22) 0 m := br_t rfl H
theorem tk_countR {post : St1 → Prop} {m : Int32} {k : Nat} (hk : k < 3) (H : post (f1, f2, f3, f4, f5, f6, f7, a1, a2, a3, a4, a5, a6, a7, a8, a9, a10, a11, a12, a13, upd a14 k ((a14 k + m).toInt8.toInt32), a15, a16, a17, a18, a19, a20, a21, a22)) : wpX_countEnd post (f1, f2, f3, f4, f5, f6, f7, a1, a2, a3, a4, a5, a6, a7, a8, a9, a10, a11, a12, a13, a14, a15, a16, a17, a18, a19, a20, a21, a22) (nI (1 + 2 * k)) m :=
  br_f (tk_ne0 (by omega)) (tk_pipeOf (Or.inl rfl) hk (tk_isR (by omega) (fun z => absurd z (by omega)) (fun _ => br_f (by decide) ⟨pk_in k 3 hk, tk_st k ((a14 k + m).toInt8.toInt32) rfl hk (by rw [nI_clamp (by omega)]) H⟩)))
theorem tk_countW {post : St1 → Prop} {m : Int32} {k : Nat} (hk : k < 3) (H : post (f1, f2, f3, f4, f5, f6, f7, a1, a2, a3, a4, a5, a6, a7, a8, a9, a10, a11, a12, a13, a14, upd a15 k ((a15 k + m).toInt8.toInt32), a16, a17, a18, a19, a20, a21, a22)) : wpX_countEnd post (f1, f2, f3, f4, f5, f6, f7, a1, a2, a3, a4, a5, a6, a7, a8, a9, a10, a11, a12, a13, a14, a15, a16, a17, a18, a19, a20, a21, a22) (nI (2 + 2 * k)) m :=
  br_f (tk_ne0 (by omega)) (tk_pipeOf (Or.inr rfl) hk (tk_isR (by omega) (fun _ => br_t rfl ⟨pk_in k 3 hk, tk_st k ((a15 k + m).toInt8.toInt32) rfl hk (by rw [nI_clamp (by omega)]) H⟩) (fun z => absurd z (by omega))))
theorem tk_isThere {post : Int32 → Prop} {k : Nat} (hk : k < 3) (hD : tk_D a9 a11 a12 a14 a15) (H0 : tk_cnt a9 (nI (1 + 2 * k)) 24 = 0 → tk_cnt a9 (nI (2 + 2 * k)) 24 = 0 → post 0) (H1 : 0 < tk_cnt a9 (nI (1 + 2 * k)) 24 + tk_cnt a9 (nI (2 + 2 * k)) 24 → post 1) : wpX_isThere post (f1, f2, f3, f4, f5, f6, f7, a1, a2, a3, a4, a5, a6, a7, a8, a9, a10, a11, a12, a13, a14, a15, a16, a17, a18, a19, a20, a21, a22) (nI k) := by
  obtain ⟨r, w, _, _⟩ := hD.2 k hk
  have l1 := tk_cnt_le a9 (nI (1 + 2 * k)) 24
  have l2 := tk_cnt_le a9 (nI (2 + 2 * k)) 24
  exact ⟨pk_in k 3 hk, pk_in k 3 hk, pk_le (tk_cnt a9 (nI (1 + 2 * k)) 24 + tk_cnt a9 (nI (2 + 2 * k)) 24) 0 (fun z => H0 (by omega) (by omega)) (fun z => H1 z) (by rw [tk_at r, tk_at w, nI_add])⟩
theorem tk_closeEnd {post : St1 → Prop} {p d : Nat} (hp : p < 6) (hd : d < 4) (hD : tk_D a9 a11 a12 a14 a15)
    (H : ∀ b12 b14 b15, tk_D (upd a9 (4 * p + d) 0) a11 b12 b14 b15 → post (f1, f2, f3, f4, f5, f6, f7, a1, a2, a3, a4, a5, a6, a7, a8, upd a9 (4 * p + d) 0, a10, a11, b12, a13, b14, b15, a16, a17, a18, a19, a20, a21, a22)) : wpX_closeEnd post (f1, f2, f3, f4, f5, f6, f7, a1, a2, a3, a4, a5, a6, a7, a8, a9, a10, a11, a12, a13, a14, a15, a16, a17, a18, a19, a20, a21, a22) (nI p) (nI d) := by
  obtain ⟨n, hn, e⟩ := hD.1 (4 * p + d) (by omega)
  refine tk_ld (4 * p + d) (tk_i4 p d) (by omega) e (pk_eq n 0 (fun z => ?_) (fun z => tk_st (4 * p + d) 0 (tk_i4 p d) (by omega) rfl ?_))
  · have e0 : a9 (4 * p + d) = 0 := by
      rw [e, z]
      rfl
    have h := H a12 a14 a15
    rw [tk_u0 e0] at h
    exact h hD
  · obtain ⟨k, hk, hnk⟩ := tk_end7 hn z
    rcases hnk with q | q
    · have e' : a9 (4 * p + d) = nI (1 + 2 * k) := by rw [e, q]
      have hD' := tk_D_clR hD (by omega) hk e'
      rw [q]
      exact tk_countR hk (tk_pipeOf (Or.inl rfl) hk (tk_isThere hk hD' (fun _ _ => br_t rfl (tk_st k 0 rfl hk rfl (H _ _ _ (tk_D_12 (c := 0) hD' (by omega))))) (fun _ => br_f (by decide) (H _ _ _ hD'))))
    · have e' : a9 (4 * p + d) = nI (2 + 2 * k) := by rw [e, q]
      have hD' := tk_D_clW hD (by omega) hk e'
      rw [q]
      exact tk_countW hk (tk_pipeOf (Or.inr rfl) hk (tk_isThere hk hD' (fun _ _ => br_t rfl (tk_st k 0 rfl hk rfl (H _ _ _ (tk_D_12 (c := 0) hD' (by omega))))) (fun _ => br_f (by decide) (H _ _ _ hD'))))
theorem tk_emptyD {post : Int32 → Prop} {p i : Nat} (hp : p < 6) (hi : i ≤ 4) (H0 : post (-1)) (H : ∀ d, i ≤ d → d < 4 → a9 (4 * p + d) = 0 → post (nI d)) : wpX_emptyDescriptor post (f1, f2, f3, f4, f5, f6, f7, a1, a2, a3, a4, a5, a6, a7, a8, a9, a10, a11, a12, a13, a14, a15, a16, a17, a18, a19, a20, a21, a22) (nI p) (nI i) :=
  pk_loop (σ := Unit) (fun n j _ => wX_emptyDescriptor_2 post (nI p) f1 f2 f3 f4 f5 f6 f7 a1 a2 a3 a4 a5 a6 a7 a8 a9 a10 a11 a12 a13 a14 a15 a16 a17 a18 a19 a20 a21 a22 n (nI j)) (fun j _ => i ≤ j) 4 i () hi (Nat.le_refl _)
    (fun n _ _ => pk_le 4 4 (fun _ => H0) (fun z => absurd z (by omega)))
    (fun n j _ hj hij hw => pk_le 4 j (fun z => absurd z (by omega)) (fun _ => ⟨pk_in (4 * p + j) 24 (by omega) (tk_i4 p j), tk_ifr (4 * p + j) (fun z => H j hij hj z) (fun _ => nm_r (nI_1 j) (hw () (Nat.le_succ_of_le hij))) (tk_i4 p j)⟩))
theorem tk_freePipe {post : Int32 → Prop} (hD : tk_D a9 a11 a12 a14 a15) (H0 : post (-1)) (H : ∀ k, k < 3 → tk_cnt a9 (nI (1 + 2 * k)) 24 = 0 → tk_cnt a9 (nI (2 + 2 * k)) 24 = 0 → post (nI k)) : wpX_freePipe post (f1, f2, f3, f4, f5, f6, f7, a1, a2, a3, a4, a5, a6, a7, a8, a9, a10, a11, a12, a13, a14, a15, a16, a17, a18, a19, a20, a21, a22) :=
  pk_loop (σ := Unit) (fun n j _ => wX_freePipe_2 post f1 f2 f3 f4 f5 f6 f7 a1 a2 a3 a4 a5 a6 a7 a8 a9 a10 a11 a12 a13 a14 a15 a16 a17 a18 a19 a20 a21 a22 n (nI j)) (fun _ _ => True) 3 0 () (by omega) trivial
    (fun n _ _ => pk_le 3 3 (fun _ => H0) (fun z => absurd z (by omega)))
    (fun n j _ hj _ hw => pk_le 3 j (fun z => absurd z (by omega)) (fun _ => tk_isThere hj hD (fun r w => br_t rfl (H j hj r w)) (fun _ => br_f (by decide) (nm_r (nI_1 j) (hw () trivial)))))
theorem tk_endAt {post : Int32 → Prop} {p : Nat} {v : Int32} (hp : p < 6) (H0 : post 0) (H : ∀ d, d < 4 → v = nI d → post (a9 (4 * p + d))) : wpX_endAt post (f1, f2, f3, f4, f5, f6, f7, a1, a2, a3, a4, a5, a6, a7, a8, a9, a10, a11, a12, a13, a14, a15, a16, a17, a18, a19, a20, a21, a22) (nI p) v := by
  refine br_c (fun _ => H0) (fun h0 => br_c (fun h3 => ?_) (fun _ => H0))
  obtain ⟨d, hd, e⟩ := nI_of2 (M := 3) (n := 3) (by decide) h0 h3
  subst e
  refine ⟨pk_in (4 * p + d) 24 (by omega) (tk_i4 p d), ?_⟩
  rw [tk_i4, nI_clamp (by omega)]
  exact H d (by omega) rfl
theorem tk_copyEnd {post : Int32 → St1 → Prop} {p e : Nat} (hp : p < 6) (he : e < 7) (hD : tk_D a9 a11 a12 a14 a15) (H0 : post (-1) (f1, f2, f3, f4, f5, f6, f7, a1, a2, a3, a4, a5, a6, a7, a8, a9, a10, a11, a12, a13, a14, a15, a16, a17, a18, a19, a20, a21, a22))
    (H : ∀ d b9 b14 b15, d < 4 → tk_D b9 a11 a12 b14 b15 → (∀ x, x ≠ 4 * p + d → b9 x = a9 x) → post (nI d) (f1, f2, f3, f4, f5, f6, f7, a1, a2, a3, a4, a5, a6, a7, a8, b9, a10, a11, a12, a13, b14, b15, a16, a17, a18, a19, a20, a21, a22)) : wpX_copyEnd post (f1, f2, f3, f4, f5, f6, f7, a1, a2, a3, a4, a5, a6, a7, a8, a9, a10, a11, a12, a13, a14, a15, a16, a17, a18, a19, a20, a21, a22) (nI p) (nI e) := by
  refine tk_emptyD (i := 0) hp (by omega) (pk_eq e 0 (fun _ => H0) (fun _ => br_f (by decide) H0)) (fun d _ hd z => pk_eq e 0 (fun _ => H0) (fun e0 => br_t (nI_pos' (by omega)) ?_))
  refine tk_st (4 * p + d) (nI e) (tk_i4 p d) (by omega) (tk_b8 e (by omega)) ?_
  obtain ⟨k, hk, hnk⟩ := tk_end7 he e0
  rcases hnk with q | q
  · rw [q]
    exact tk_countR hk (H d _ _ _ hd (tk_D_opR hD (by omega) hk z) (fun x hx => pk_un hx))
  · rw [q]
    exact tk_countW hk (H d _ _ _ hd (tk_D_opW hD (by omega) hk z) (fun x hx => pk_un hx))
theorem tk_readPipe {post : Int32 → St1 → Prop} {e : Nat} (he : e < 7) (hD : tk_D a9 a11 a12 a14 a15) (H : ∀ v b11 b12, tk_D a9 b11 b12 a14 a15 → post v (f1, f2, f3, f4, f5, f6, f7, a1, a2, a3, a4, a5, a6, a7, a8, a9, a10, b11, b12, a13, a14, a15, a16, a17, a18, a19, a20, a21, a22)) : wpX_readPipe post (f1, f2, f3, f4, f5, f6, f7, a1, a2, a3, a4, a5, a6, a7, a8, a9, a10, a11, a12, a13, a14, a15, a16, a17, a18, a19, a20, a21, a22) (nI e) := by
  refine pk_eq e 0 (fun _ => H _ _ _ hD) (fun e0 => tk_isR (by omega) (fun _ => br_t rfl (H _ _ _ hD)) (fun _ => br_f (by decide) ?_))
  obtain ⟨k, hk, hnk⟩ := tk_end7 he e0
  obtain ⟨_, _, ⟨s, hs, es⟩, ⟨c, hc, ec⟩⟩ := hD.2 k hk
  refine tk_pipeOf hnk hk ⟨pk_in k 3 hk, pk_eq c 0 (fun _ => H _ _ _ hD) (fun c0 => ⟨pk_in k 3 hk, ?_⟩) (tk_at ec)⟩
  refine ⟨pk_in (4 * k + s) 12 (by omega) (by rw [tk_at es, tk_i4]), nm_e ⟨pk_in k 3 hk, tk_st k (nI ((s + 1) % 4)) rfl hk (by rw [tk_at es, nI_1, tk_and3 (by omega), tk_b8 _ (by omega)]) ⟨pk_in k 3 hk, tk_st k (nI (c - 1)) rfl hk ?_ (H _ _ _ (tk_D_12 (tk_D_11 hD (by omega)) (by omega)))⟩⟩⟩
  obtain ⟨m, rfl⟩ : ∃ m, c = m + 1 := ⟨c - 1, by omega⟩
  rw [tk_at ec, nI_pred, tk_b8 _ (by omega)]
  rfl
theorem tk_writePipe {post : Int32 → St1 → Prop} {p e a : Nat} (hp : p < 6) (he : e < 7) (ha : a < 4) (hD : tk_D a9 a11 a12 a14 a15) (hw : ∀ k, k < 3 → e = 2 + 2 * k → 0 < tk_cnt a9 (nI (1 + 2 * k)) 24 → a12 k ≠ nI 4) (H0 : post 0 (f1, f2, f3, f4, f5, f6, f7, a1, a2, a3, a4, a5, a6, a7, a8, a9, a10, a11, a12, a13, a14, a15, a16, a17, a18, a19, a20, a21, a22))
    (H : ∀ b8 b12 b13, tk_D a9 a11 b12 a14 a15 → post 1 (f1, f2, f3, f4, f5, f6, f7, a1, a2, a3, a4, a5, a6, a7, b8, a9, a10, a11, b12, b13, a14, a15, a16, a17, a18, a19, a20, a21, a22)) : wpX_writePipe post (f1, f2, f3, f4, f5, f6, f7, a1, a2, a3, a4, a5, a6, a7, a8, a9, a10, a11, a12, a13, a14, a15, a16, a17, a18, a19, a20, a21, a22) (nI p) (nI e) (nI a) := by
  have h12 : wX_writePipe_12 post (nI p) (nI a) f1 f2 f3 f4 f5 f6 f7 a1 a2 a3 a4 a5 a6 a7 a8 a9 a10 a11 a12 a13 a14 a15 a16 a17 a18 a19 a20 a21 a22 := tk_st (4 * p + a) (-1) (tk_i4 p a) (by omega) rfl (H _ _ _ hD)
  refine pk_eq e 0 (fun _ => h12) (fun e0 => tk_isR (by omega) (fun ev => br_t rfl ?_) (fun _ => br_f (by decide) h12))
  obtain ⟨k, hk, hnk⟩ := tk_end7 he e0
  obtain ⟨r, _, ⟨s, hs, es⟩, ⟨c, hc, ec⟩⟩ := hD.2 k hk
  have hl := tk_cnt_le a9 (nI (1 + 2 * k)) 24
  refine tk_pipeOf hnk hk ⟨pk_in k 3 hk, pk_eq (tk_cnt a9 (nI (1 + 2 * k)) 24) 0 (fun _ => H0) (fun c0 => ?_) (tk_at r)⟩
  have hc4 : c ≠ 4 := fun z => hw k hk (by omega) (by omega) (by rw [ec, z])
  refine ⟨pk_in k 3 hk, pk_in k 3 hk, pk_in (4 * p + a) 24 (by omega) (tk_i4 p a), ?_⟩
  refine tk_st (4 * k + (s + c) % 4) _ (by rw [tk_at es, tk_at ec, nI_add, tk_and3 (by omega), tk_i4]) (by omega) rfl ⟨pk_in k 3 hk, tk_st k (nI (c + 1)) rfl hk (by rw [tk_at ec, nI_1, tk_b8 _ (by omega)]) (H _ _ _ (tk_D_12 hD (by omega)))⟩
theorem tk_makePipe {post : St1 → Prop} {p a b : Nat} (hp : p < 6) (ha : a < 4) (hb : b < 4) (hD : tk_D a9 a11 a12 a14 a15)
    (H : ∀ b8 b9 b11 b12 b14 b15, tk_D b9 b11 b12 b14 b15 → (∀ x, x < 4 * p ∨ 4 * p + 4 ≤ x → b9 x = a9 x) → post (f1, f2, f3, f4, f5, f6, f7, a1, a2, a3, a4, a5, a6, a7, b8, b9, a10, b11, b12, a13, b14, b15, a16, a17, a18, a19, a20, a21, a22)) : wpX_makePipe post (f1, f2, f3, f4, f5, f6, f7, a1, a2, a3, a4, a5, a6, a7, a8, a9, a10, a11, a12, a13, a14, a15, a16, a17, a18, a19, a20, a21, a22) (nI p) (nI a) (nI b) := by
  have h44 : wX_makePipe_44 post (nI p) (nI a) f1 f2 f3 f4 f5 f6 f7 a1 a2 a3 a4 a5 a6 a7 a8 a9 a10 a11 a12 a13 a14 a15 a16 a17 a18 a19 a20 a21 a22 := tk_st (4 * p + a) (-1) (tk_i4 p a) (by omega) rfl (H _ _ _ _ _ _ hD (fun _ _ => rfl))
  have h26 : ∀ v, wX_makePipe_26 post (nI p) (nI a) (nI b) v (-1) f1 f2 f3 f4 f5 f6 f7 a1 a2 a3 a4 a5 a6 a7 a8 a9 a10 a11 a12 a13 a14 a15 a16 a17 a18 a19 a20 a21 a22 := fun v => tk_freePipe hD (br_t (by decide) h44) (fun k hk _ _ => br_t (by decide) h44)
  refine tk_emptyD (i := 0) hp (by omega) (br_f (by decide) (h26 _)) (fun x _ hx zx => br_t (nI_pos' (by omega)) ?_)
  rw [nI_1]
  refine tk_emptyD (i := x + 1) hp (by omega) (h26 _) (fun y hxy hy zy => ?_)
  refine tk_freePipe hD (br_f (nI_pos (by omega)) (br_f (by decide) h44)) (fun k hk r0 w0 => br_f (nI_pos (by omega)) (br_t (nI_pos' (by omega)) ?_))
  refine tk_st (4 * p + x) (nI (1 + 2 * k)) (tk_i4 p x) (by omega) ?_ (tk_st (4 * p + y) (nI (2 + 2 * k)) (tk_i4 p y) (by omega) ?_ (tk_st k 1 rfl hk rfl (tk_st k 1 rfl hk rfl (tk_st k 0 rfl hk rfl (tk_st k 0 rfl hk rfl (tk_st (4 * p + a) (nI x) (tk_i4 p a) (by omega) rfl (tk_st (4 * p + b) (nI y) (tk_i4 p b) (by omega) rfl ?_)))))))
  · rw [show (1 : Int32) + 2 * nI k = nI (1 + 2 * k) by rw [show (2 : Int32) * nI k = nI (2 * k) from pk_mul 2 k]; exact nI_add 1 (2 * k), tk_b8 _ (by omega)]
  · rw [show (2 : Int32) + 2 * nI k = nI (2 + 2 * k) by rw [show (2 : Int32) * nI k = nI (2 * k) from pk_mul 2 k]; exact nI_add 2 (2 * k), tk_b8 _ (by omega)]
  · refine H _ _ _ _ _ _ (tk_D_mk hD (by omega) (by omega) (by omega) hk zx zy r0 w0) (fun q hq => ?_)
    rw [pk_un (by omega), pk_un (by omega)]
end
end
section
def tk_al (a5 : Nat → Int32) (p : Nat) : Prop := a5 p = 1 ∨ a5 p = 2
def tk_C (a2 a3 : Nat → Int32) : Prop := ∀ i, i < 64 → (∃ k, k < 4 ∧ a2 i = nI k) ∧ (∃ k, k < 4 ∧ a3 i = nI k)
/-- one process: its state, its parent, its spot -/
def tk_P1 (a5 a6 a7 : Nat → Int32) (p : Nat) : Prop := (∃ s, s < 4 ∧ a5 p = nI s) ∧ (a7 p = -1 ∨ ∃ q, q < 6 ∧ a7 p = nI q) ∧ (a5 p ≠ 0 → ∀ q, q < 6 → a7 p = nI q → q ≠ p ∧ tk_al a5 q) ∧ (a5 p = 3 → a7 p ≠ -1) ∧ (a5 p = 2 → ∃ i, i < 64 ∧ a6 p = nI i)
def tk_P (a5 a6 a7 : Nat → Int32) : Prop := ∀ p, p < 6 → tk_P1 a5 a6 a7 p
def tk_L (a5 a9 a16 : Nat → Int32) : Prop := ∀ p, p < 6 → ¬ tk_al a5 p → ∀ k, k < 4 → a9 (4 * p + k) = 0 ∧ a16 (4 * p + k) = 0
def tk_S (a5 : Nat → Int32) (r : Nat) (x : Nat) : Prop := x < 6 ∧ a5 x = 1 ∧ x ≠ r
/-- the whole invariant; r: the process that runs now (6: none) -/
def tk_I (e q r : Nat) (u : St1) : Prop := match u with
  | (f1, f2, f3, f4, f5, f6, f7, a1, a2, a3, a4, a5, a6, a7, a8, a9, a10, a11, a12, a13, a14, a15, a16, a17, a18, a19, a20, a21, a22) => tk_C a2 a3 ∧ tk_P a5 a6 a7 ∧ tk_Q f1 f2 a10 (tk_S a5 r) ∧ tk_D a9 a11 a12 a14 a15 ∧ tk_M f3 a16 a17 a20 ∧ tk_L a5 a9 a16 ∧ f5 = lN e ∧ f6 = nI q
theorem tk_S6 {a5 : Nat → Int32} {r x : Nat} (h : tk_S a5 r x) : x < 6 := h.1
theorem tk_al0 {a5 : Nat → Int32} {p : Nat} (h : tk_al a5 p) : a5 p ≠ 0 := by
  rcases h with z | z <;> rw [z] <;> decide
theorem tk_al3 {a5 : Nat → Int32} {p : Nat} (h : tk_al a5 p) : a5 p ≠ 3 := by
  rcases h with z | z <;> rw [z] <;> decide
/-! what becomes of the children -/
def tk_e7 (a5 a7 : Nat → Int32) (p c : Nat) : Int32 := if a5 c ≠ 0 ∧ a7 c = nI p then -1 else a7 c
def tk_e5 (a5 a7 : Nat → Int32) (p c : Nat) : Int32 := if a5 c = 3 ∧ a7 c = nI p then 0 else a5 c
theorem tk_fs {b g a : Nat → Int32} {i : Nat} {v : Int32} (h : ∀ c, b c = if c < i then g c else a c) (e : v = g i) : ∀ c, upd b i v c = if c < i + 1 then g c else a c := fun c => by
  by_cases z : c = i
  · rw [z, pk_us, if_pos (by omega), e]
  · rw [pk_un z, h c]
    by_cases y : c < i
    · rw [if_pos y, if_pos (by omega)]
    · rw [if_neg y, if_neg (by omega)]
theorem tk_fn {b g a : Nat → Int32} {i : Nat} (h : ∀ c, b c = if c < i then g c else a c) (e : a i = g i) : ∀ c, b c = if c < i + 1 then g c else a c := fun c => by
  rw [h c]
  by_cases y : c < i
  · rw [if_pos y, if_pos (by omega)]
  · by_cases z : c = i
    · rw [if_neg y, if_pos (by omega), z, e]
    · rw [if_neg y, if_neg (by omega)]
theorem tk_fi {b g a : Nat → Int32} {i : Nat} (h : ∀ c, b c = if c < i then g c else a c) : b i = a i := by
  rw [h i, if_neg (by omega)]
theorem tk_e5_1 {a5 a7 : Nat → Int32} {p c : Nat} (h : tk_e5 a5 a7 p c ≠ 0) : tk_e5 a5 a7 p c = a5 c ∧ a5 c ≠ 0 := by
  unfold tk_e5 at h ⊢
  by_cases e : a5 c = 3 ∧ a7 c = nI p
  · rw [if_pos e] at h
    exact absurd rfl h
  · rw [if_neg e] at h ⊢
    exact ⟨rfl, h⟩
theorem tk_e5_a {a5 a7 : Nat → Int32} {p c : Nat} (h : a5 c ≠ 3) : tk_e5 a5 a7 p c = a5 c := if_neg (fun z => h z.1)
theorem tk_e7_1 {a5 a7 : Nat → Int32} {p c : Nat} (h : tk_e7 a5 a7 p c ≠ -1) : tk_e7 a5 a7 p c = a7 c ∧ ¬ (a5 c ≠ 0 ∧ a7 c = nI p) := by
  unfold tk_e7 at h ⊢
  by_cases e : a5 c ≠ 0 ∧ a7 c = nI p
  · rw [if_pos e] at h
    exact absurd rfl h
  · exact ⟨if_neg e, e⟩
theorem tk_P_end {a5 a6 a7 b5 b7 : Nat → Int32} {p : Nat} {z v : Int32} (hP : tk_P a5 a6 a7) (hp : p < 6) (hal : tk_al a5 p) (h5 : ∀ c, c < 6 → b5 c = tk_e5 a5 a7 p c) (h7 : ∀ c, c < 6 → b7 c = tk_e7 a5 a7 p c)
    (hz : (z = 3 ∧ ∃ q, q < 6 ∧ a7 p = nI q) ∨ (z = 0 ∧ a7 p = -1)) :
    tk_P (upd b5 p z) (upd a6 p v) b7 ∧ (∀ c, c < 6 → upd b5 p z c ≠ 0 → b7 c ≠ nI p) ∧ (∀ c, c < 6 → c ≠ p → a5 c ≠ 3 → upd b5 p z c = a5 c) := by
  have hpp : a7 p ≠ nI p := fun e => ((hP p hp).2.2.1 (tk_al0 hal) p hp e).1 rfl
  have e7p : b7 p = a7 p := by
    rw [h7 p hp]
    exact if_neg (fun y => hpp y.2)
  have keep : ∀ c, c < 6 → c ≠ p → a5 c ≠ 3 → upd b5 p z c = a5 c := fun c hc hcp h3 => by
    rw [pk_un hcp, h5 c hc, tk_e5_a h3]
  have alive : ∀ c, c < 6 → c ≠ p → tk_al a5 c → tk_al (upd b5 p z) c := fun c hc hcp ha => by
    have e := keep c hc hcp (tk_al3 ha)
    unfold tk_al
    rw [e]
    exact ha
  refine ⟨fun c hc => ?_, fun c hc h0 => ?_, keep⟩
  · by_cases ec : c = p
    · subst ec
      refine ⟨?_, ?_, fun h0 q hq eq => ?_, fun h3 => ?_, fun h2 => ?_⟩
      · rw [pk_us]
        rcases hz with ⟨y, _⟩ | ⟨y, _⟩
        · exact ⟨3, by omega, y⟩
        · exact ⟨0, by omega, y⟩
      · rw [e7p]
        exact (hP c hc).2.1
      · rw [e7p] at eq
        have h := (hP c hc).2.2.1 (tk_al0 hal) q hq eq
        exact ⟨h.1, alive q hq h.1 h.2⟩
      · rw [pk_us] at h3
        rw [e7p]
        rcases hz with ⟨y, q, hq, eq⟩ | ⟨y, _⟩
        · rw [eq]
          exact tk_m1
        · rw [y] at h3
          exact absurd h3 (by decide)
      · rw [pk_us] at h2
        rcases hz with ⟨y, _⟩ | ⟨y, _⟩ <;> rw [y] at h2 <;> exact absurd h2 (by decide)
    · have e5 : upd b5 p z c = tk_e5 a5 a7 p c := by rw [pk_un ec, h5 c hc]
      obtain ⟨p1, p2, p3, p4, p5⟩ := hP c hc
      refine ⟨?_, ?_, fun h0 q hq eq => ?_, fun h3 => ?_, fun h2 => ?_⟩
      · rw [e5]
        unfold tk_e5
        by_cases y : a5 c = 3 ∧ a7 c = nI p
        · rw [if_pos y]
          exact ⟨0, by omega, rfl⟩
        · rw [if_neg y]
          exact p1
      · rw [h7 c hc]
        unfold tk_e7
        by_cases y : a5 c ≠ 0 ∧ a7 c = nI p
        · rw [if_pos y]
          exact Or.inl rfl
        · rw [if_neg y]
          exact p2
      · rw [e5] at h0
        rw [h7 c hc] at eq
        have h := tk_e7_1 (by rw [eq]; exact tk_m1)
        rw [h.1] at eq
        have h0' := (tk_e5_1 h0).2
        have hq' := p3 h0' q hq eq
        have hqp : q ≠ p := fun y => h.2 ⟨h0', by rw [eq, y]⟩
        exact ⟨hq'.1, alive q hq hqp hq'.2⟩
      · rw [e5] at h3
        have h := tk_e5_1 (by rw [h3]; decide)
        rw [h.1] at h3
        have hn : ¬ (a5 c ≠ 0 ∧ a7 c = nI p) := fun y => by
          have := h.1
          unfold tk_e5 at this
          rw [if_pos ⟨h3, y.2⟩] at this
          exact h.2 this.symm
        rw [h7 c hc]
        unfold tk_e7
        rw [if_neg hn]
        exact p4 h3
      · rw [e5] at h2
        have h := tk_e5_1 (by rw [h2]; decide)
        rw [h.1] at h2
        rw [pk_un ec]
        exact p5 h2
  · by_cases ec : c = p
    · rw [ec, e7p]
      exact hpp
    · rw [pk_un ec, h5 c hc] at h0
      have h := tk_e5_1 h0
      rw [h7 c hc]
      unfold tk_e7
      by_cases y : a5 c ≠ 0 ∧ a7 c = nI p
      · rw [if_pos y]
        exact Ne.symm (tk_m1 (a := p) (by omega))
      · rw [if_neg y]
        exact fun e => y ⟨h.2, e⟩
section
variable {f1 f2 f3 f4 : Int32} {f5 : Int64} {f6 f7 : Int32} {a1 a2 a3 a4 a5 a6 a7 a8 a9 a10 a11 a12 a13 a14 a15 a16 a17 a18 a19 a20 a21 a22 : Nat → Int32}
theorem tk_end31 {post : St1 → Prop} {p : Nat} {v : Int32} (hp : p < 6) (hP : tk_P a5 a6 a7) (hal : tk_al a5 p)
    (H : ∀ b5 b7, (∀ c, c < 6 → b5 c = tk_e5 a5 a7 p c) → (∀ c, c < 6 → b7 c = tk_e7 a5 a7 p c) → ∀ z, ((z = 3 ∧ ∃ q, q < 6 ∧ a7 p = nI q) ∨ (z = 0 ∧ a7 p = -1)) → post (f1, f2, f3, f4, f5, f6, f7, a1, a2, a3, a4, upd b5 p z, upd a6 p v, b7, a8, a9, a10, a11, a12, a13, a14, a15, a16, a17, a18, a19, a20, a21, a22)) :
    ∃ n, wX_end_31 post (nI p) v f1 f2 f3 f4 f5 f6 f7 n 0 a1 a2 a3 a4 a5 a6 a7 a8 a9 a10 a11 a12 a13 a14 a15 a16 a17 a18 a19 a20 a21 a22 := by
  refine pk_loop (σ := (Nat → Int32) × (Nat → Int32)) (fun n i s => wX_end_31 post (nI p) v f1 f2 f3 f4 f5 f6 f7 n (nI i) a1 a2 a3 a4 s.1 a6 s.2 a8 a9 a10 a11 a12 a13 a14 a15 a16 a17 a18 a19 a20 a21 a22)
    (fun i s => (∀ c, s.1 c = if c < i then tk_e5 a5 a7 p c else a5 c) ∧ (∀ c, s.2 c = if c < i then tk_e7 a5 a7 p c else a7 c)) 6 0 (a5, a7) (by omega) ⟨fun c => by rw [if_neg (by omega)], fun c => by rw [if_neg (by omega)]⟩ ?_ ?_
  · rintro n ⟨b5, b7⟩ ⟨h5, h7⟩
    have h5' : ∀ c, c < 6 → b5 c = tk_e5 a5 a7 p c := fun c hc => (h5 c).trans (if_pos hc)
    have h7' : ∀ c, c < 6 → b7 c = tk_e7 a5 a7 p c := fun c hc => (h7 c).trans (if_pos hc)
    have e7p : b7 p = a7 p := by
      rw [h7' p hp]
      exact if_neg (fun y => ((hP p hp).2.2.1 (tk_al0 hal) p hp y.2).1 rfl)
    refine pk_le 6 6 (fun _ => tk_st p v rfl hp rfl ⟨pk_in p 6 hp, ?_⟩) (fun z => absurd z (by omega))
    rcases (hP p hp).2.1 with e | ⟨q, hq, e⟩
    · exact br_f (by show ¬ 0 ≤ b7 (nI p).toNatClampNeg; rw [tk_at (e7p.trans e)]; decide) (tk_st p 0 rfl hp (by decide) (H b5 b7 h5' h7' 0 (Or.inr ⟨rfl, e⟩)))
    · exact br_t (by show 0 ≤ b7 (nI p).toNatClampNeg; rw [tk_at (e7p.trans e)]; exact nI_pos' (by omega)) (tk_st p 3 rfl hp (by decide) (H b5 b7 h5' h7' 3 (Or.inl ⟨rfl, q, hq, e⟩)))
  · rintro n i ⟨b5, b7⟩ hi ⟨h5, h7⟩ hw
    have e5 : b5 i = a5 i := tk_fi h5
    have e7 : b7 i = a7 i := tk_fi h7
    refine pk_le 6 i (fun z => absurd z (by omega)) (fun _ => ⟨pk_in i 6 hi, tk_ifr i (fun z => ?_) (fun z => ⟨pk_in i 6 hi, tk_ifr i (fun y => ?_) (fun y => ?_)⟩)⟩)
    · have z' : a5 i = 0 := e5.symm.trans z
      refine nm_r (nI_1 i) (hw (b5, b7) ⟨tk_fn h5 ?_, tk_fn h7 ?_⟩)
      · exact (tk_e5_a (by rw [z']; decide)).symm
      · exact (if_neg (fun q => q.1 z')).symm
    · have z' : a5 i ≠ 0 := fun q => z (e5.trans q)
      have y' : a7 i = nI p := e7.symm.trans y
      have g7 : (-1 : Int32) = tk_e7 a5 a7 p i := (if_pos ⟨z', y'⟩).symm
      refine tk_st i (-1) rfl hi rfl ⟨pk_in i 6 hi, tk_ifr i (fun x => ?_) (fun x => ?_)⟩
      · have x' : a5 i = 3 := e5.symm.trans x
        exact tk_st i 0 rfl hi rfl (nm_r (nI_1 i) (hw (upd b5 i 0, upd b7 i (-1)) ⟨tk_fs h5 (if_pos ⟨x', y'⟩).symm, tk_fs h7 g7⟩))
      · exact nm_r (nI_1 i) (hw (b5, upd b7 i (-1)) ⟨tk_fn h5 (tk_e5_a (fun q => x (e5.trans q))).symm, tk_fs h7 g7⟩)
    · have y' : ¬ a7 i = nI p := fun q => y (e7.trans q)
      exact nm_r (nI_1 i) (hw (b5, b7) ⟨tk_fn h5 (if_neg (fun q => y' q.2)).symm, tk_fn h7 (if_neg (fun q => y' q.2)).symm⟩)
theorem tk_end7w {post : St1 → Prop} {p : Nat} {v : Int32} (hp : p < 6) (hD : tk_D a9 a11 a12 a14 a15) (hM : tk_M f3 a16 a17 a20) (hP : tk_P a5 a6 a7) (hal : tk_al a5 p)
    (H : ∀ b5 b7 b9 b12 b14 b15 b16 b17 b20, tk_D b9 a11 b12 b14 b15 → (∀ k, k < 4 → b9 (4 * p + k) = 0) → (∀ x, x < 4 * p ∨ 4 * p + 4 ≤ x → b9 x = a9 x) →
      tk_M f3 b16 b17 b20 → (∀ k, k < 4 → b16 (4 * p + k) = 0) → (∀ x, x < 4 * p ∨ 4 * p + 4 ≤ x → b16 x = a16 x) →
      (∀ c, c < 6 → b5 c = tk_e5 a5 a7 p c) → (∀ c, c < 6 → b7 c = tk_e7 a5 a7 p c) → ∀ z, ((z = 3 ∧ ∃ q, q < 6 ∧ a7 p = nI q) ∨ (z = 0 ∧ a7 p = -1)) →
      post (f1, f2, f3, f4, f5, f6, f7, a1, a2, a3, a4, upd b5 p z, upd a6 p v, b7, a8, b9, a10, a11, b12, a13, b14, b15, b16, b17, a18, a19, b20, a21, a22)) :
    ∃ n, wX_end_7 post (nI p) v n 0 f1 f2 f3 f4 f5 f6 f7 a1 a2 a3 a4 a5 a6 a7 a8 a9 a10 a11 a12 a13 a14 a15 a16 a17 a18 a19 a20 a21 a22 := by
  refine pk_loop (σ := (Nat → Int32) × (Nat → Int32) × (Nat → Int32) × (Nat → Int32)) (fun n i s => wX_end_7 post (nI p) v n (nI i) f1 f2 f3 f4 f5 f6 f7 a1 a2 a3 a4 a5 a6 a7 a8 s.1 a10 a11 s.2.1 a13 s.2.2.1 s.2.2.2 a16 a17 a18 a19 a20 a21 a22)
    (fun i s => tk_D s.1 a11 s.2.1 s.2.2.1 s.2.2.2 ∧ (∀ k, k < i → s.1 (4 * p + k) = 0) ∧ (∀ x, x < 4 * p ∨ 4 * p + 4 ≤ x → s.1 x = a9 x)) 4 0 (a9, a12, a14, a15) (by omega) ⟨hD, fun k hk => absurd hk (by omega), fun _ _ => rfl⟩ ?_ ?_
  · rintro n ⟨b9, b12, b14, b15⟩ ⟨h1, h2, h3⟩
    refine pk_le 4 4 (fun _ => ?_) (fun z => absurd z (by omega))
    refine tk_freePages hp hM (fun b16 b17 b20 m1 m2 m3 => ?_)
    exact tk_end31 hp hP hal (fun b5 b7 h5 h7 z hz => H b5 b7 b9 b12 b14 b15 b16 b17 b20 h1 h2 h3 m1 m2 m3 h5 h7 z hz)
  · rintro n i ⟨b9, b12, b14, b15⟩ hi ⟨h1, h2, h3⟩ hw
    refine pk_le 4 i (fun z => absurd z (by omega)) (fun _ => ?_)
    refine tk_closeEnd hp hi h1 (fun c12 c14 c15 hD' => nm_r (nI_1 i) (hw (upd b9 (4 * p + i) 0, c12, c14, c15) ⟨hD', fun k hk => ?_, fun x hx => ?_⟩))
    · show upd b9 (4 * p + i) 0 (4 * p + k) = 0
      by_cases e : k = i
      · rw [e, pk_us]
      · rw [pk_un (by omega)]
        exact h2 k (by omega)
    · show upd b9 (4 * p + i) 0 x = a9 x
      rw [pk_un (by omega)]
      exact h3 x hx
theorem tk_end {post : St1 → Prop} {e q r p : Nat} {v : Int32} (h : tk_I e q r (f1, f2, f3, f4, f5, f6, f7, a1, a2, a3, a4, a5, a6, a7, a8, a9, a10, a11, a12, a13, a14, a15, a16, a17, a18, a19, a20, a21, a22)) (hp : p < 6) (hal : tk_al a5 p)
    (H : ∀ g1 g2 b5 b7 b9 b10 b12 b14 b15 b16 b17 b20, tk_I e q r (g1, g2, f3, f4, f5, f6, f7, a1, a2, a3, a4, b5, upd a6 p v, b7, a8, b9, b10, a11, b12, a13, b14, b15, b16, b17, a18, a19, b20, a21, a22) →
      ((b5 p = 3 ∧ ∃ q, q < 6 ∧ a7 p = nI q) ∨ (b5 p = 0 ∧ a7 p = -1)) → (∀ c, c < 6 → b5 c ≠ 0 → b7 c ≠ nI p) → (∀ c, c < 6 → c ≠ p → a5 c ≠ 3 → b5 c = a5 c) →
      post (g1, g2, f3, f4, f5, f6, f7, a1, a2, a3, a4, b5, upd a6 p v, b7, a8, b9, b10, a11, b12, a13, b14, b15, b16, b17, a18, a19, b20, a21, a22)) : wpX_end post (f1, f2, f3, f4, f5, f6, f7, a1, a2, a3, a4, a5, a6, a7, a8, a9, a10, a11, a12, a13, a14, a15, a16, a17, a18, a19, a20, a21, a22) (nI p) v := by
  obtain ⟨hC, hP, hQ, hD, hM, hL, h5, h6⟩ := h
  refine tk_leave hp hQ (fun x hx => hx.1) (fun g1 g2 b10 hQ' => ?_)
  refine tk_end7w hp hD hM hP hal (fun b5 b7 b9 b12 b14 b15 b16 b17 b20 d1 d2 d3 m1 m2 m3 k5 k7 z hz => ?_)
  obtain ⟨n1, n2, n3⟩ := tk_P_end (v := v) hP hp hal k5 k7 hz
  refine H g1 g2 _ b7 b9 b10 b12 b14 b15 b16 b17 b20 ⟨hC, n1, tk_Q_mono hQ' (fun x hx => ⟨hx.1.1, ?_, hx.1.2.2⟩), d1, m1, fun c hc hn k hk => ?_, h5, h6⟩ ?_ n2 n3
  · rw [n3 x hx.1.1 hx.2 (by rw [hx.1.2.1]; decide)]
    exact hx.1.2.1
  · by_cases ec : c = p
    · rw [ec]
      exact ⟨d2 k hk, m2 k hk⟩
    · have hn' : ¬ tk_al a5 c := fun ha => hn (by
        have e := n3 c hc ec (tk_al3 ha)
        unfold tk_al
        rw [e]
        exact ha)
      have h := hL c hc hn' k hk
      rw [d3 _ (by omega), m3 _ (by omega)]
      exact h
  · rw [pk_us]
    exact hz
end
end
section
theorem tk_P_new {a5 a6 a7 : Nat → Int32} {c : Nat} {s v : Int32} (hP : tk_P a5 a6 a7) (h0 : a5 c = 0) (hv : v = -1 ∨ ∃ q, q < 6 ∧ q ≠ c ∧ tk_al a5 q ∧ v = nI q) : tk_P (upd a5 c 1) (upd a6 c s) (upd a7 c v) := by
  have keep : ∀ q, tk_al a5 q → tk_al (upd a5 c 1) q := fun q hq => by
    have e : q ≠ c := fun e => tk_al0 hq (by rw [e, h0])
    unfold tk_al
    rw [pk_un e]
    exact hq
  intro x hx
  by_cases e : x = c
  · subst e
    refine ⟨⟨1, by omega, by rw [pk_us]; rfl⟩, ?_, fun _ q hq eq => ?_, fun h3 => ?_, fun h2 => ?_⟩
    · rw [pk_us]
      rcases hv with y | ⟨q, hq, _, _, y⟩
      · exact Or.inl y
      · exact Or.inr ⟨q, hq, y⟩
    · rw [pk_us] at eq
      rcases hv with y | ⟨q', hq', n', l', y⟩
      · rw [y] at eq
        exact absurd eq.symm tk_m1
      · rw [y] at eq
        have := tk_inj eq
        subst this
        exact ⟨n', keep _ l'⟩
    · rw [pk_us] at h3
      exact absurd h3 (by decide)
    · rw [pk_us] at h2
      exact absurd h2 (by decide)
  · obtain ⟨p1, p2, p3, p4, p5⟩ := hP x hx
    unfold tk_P1
    rw [pk_un e, pk_un e, pk_un e]
    exact ⟨p1, p2, fun h q hq eq => ⟨(p3 h q hq eq).1, keep q (p3 h q hq eq).2⟩, p4, p5⟩
theorem tk_P_6 {a5 a6 a7 : Nat → Int32} {p : Nat} {v : Int32} (hP : tk_P a5 a6 a7) (h : a5 p ≠ 2) : tk_P a5 (upd a6 p v) a7 := fun x hx => by
  obtain ⟨p1, p2, p3, p4, p5⟩ := hP x hx
  refine ⟨p1, p2, p3, p4, fun h2 => ?_⟩
  rw [pk_un (fun e => h (by rw [← e]; exact h2))]
  exact p5 h2
/-- a live process becomes ready, or waits -/
theorem tk_P_12 {a5 a6 a7 : Nat → Int32} {p : Nat} {v : Int32} (hP : tk_P a5 a6 a7) (hal : tk_al a5 p) (hv : v = 1 ∨ (v = 2 ∧ ∃ i, i < 64 ∧ a6 p = nI i)) : tk_P (upd a5 p v) a6 a7 := by
  have hv' : tk_al (upd a5 p v) p := by
    unfold tk_al
    rw [pk_us]
    rcases hv with y | ⟨y, _⟩
    · exact Or.inl y
    · exact Or.inr y
  have keep : ∀ q, tk_al a5 q → tk_al (upd a5 p v) q := fun q hq => by
    by_cases e : q = p
    · rw [e]
      exact hv'
    · unfold tk_al
      rw [pk_un e]
      exact hq
  intro x hx
  obtain ⟨p1, p2, p3, p4, p5⟩ := hP x hx
  by_cases e : x = p
  · subst e
    refine ⟨?_, p2, fun _ q hq eq => ⟨(p3 (tk_al0 hal) q hq eq).1, keep q (p3 (tk_al0 hal) q hq eq).2⟩, fun h3 => absurd h3 (tk_al3 hv'), fun h2 => ?_⟩
    · rw [pk_us]
      rcases hv with y | ⟨y, _⟩
      · exact ⟨1, by omega, y⟩
      · exact ⟨2, by omega, y⟩
    · rw [pk_us] at h2
      rcases hv with y | ⟨y, z⟩
      · rw [y] at h2
        exact absurd h2 (by decide)
      · exact z
  · unfold tk_P1
    rw [pk_un e]
    exact ⟨p1, p2, fun h q hq eq => ⟨(p3 h q hq eq).1, keep q (p3 h q hq eq).2⟩, p4, p5⟩
/-- an ended process is taken -/
theorem tk_P_0 {a5 a6 a7 : Nat → Int32} {c : Nat} (hP : tk_P a5 a6 a7) (h3 : a5 c = 3) : tk_P (upd a5 c 0) a6 a7 := by
  have keep : ∀ q, tk_al a5 q → tk_al (upd a5 c 0) q := fun q hq => by
    have e : q ≠ c := fun e => tk_al3 hq (by rw [e, h3])
    unfold tk_al
    rw [pk_un e]
    exact hq
  intro x hx
  obtain ⟨p1, p2, p3, p4, p5⟩ := hP x hx
  by_cases e : x = c
  · subst e
    refine ⟨⟨0, by omega, by rw [pk_us]; rfl⟩, p2, fun h => absurd pk_us h, fun h => ?_, fun h => ?_⟩
    · rw [pk_us] at h
      exact absurd h (by decide)
    · rw [pk_us] at h
      exact absurd h (by decide)
  · unfold tk_P1
    rw [pk_un e]
    exact ⟨p1, p2, fun h q hq eq => ⟨(p3 h q hq eq).1, keep q (p3 h q hq eq).2⟩, p4, p5⟩
theorem tk_L_al {a5 a9 a16 : Nat → Int32} {p : Nat} {v : Int32} (hL : tk_L a5 a9 a16) (h : v = 1 ∨ v = 2) : tk_L (upd a5 p v) a9 a16 := fun c hc hn k hk => by
  refine hL c hc (fun ha => hn ?_) k hk
  unfold tk_al
  by_cases e : c = p
  · rw [e, pk_us]
    exact h
  · rw [pk_un e]
    exact ha
theorem tk_L_na {a5 a9 a16 : Nat → Int32} {p : Nat} {v : Int32} (hL : tk_L a5 a9 a16) (h : ¬ tk_al a5 p) : tk_L (upd a5 p v) a9 a16 := fun c hc hn k hk => by
  by_cases e : c = p
  · exact hL c hc (by rw [e]; exact h) k hk
  · refine hL c hc (fun ha => hn ?_) k hk
    unfold tk_al
    rw [pk_un e]
    exact ha
/-- the answer of a loop that only looks -/
theorem tk_det (W : (Int32 → Prop) → Nat → Nat → Prop) (e : Nat) (hx : ∃ v, ∀ (post : Int32 → Prop) (n : Nat), post v → W post (n + 1) e)
    (hs : ∀ i, i < e → (∃ v, ∀ (post : Int32 → Prop) (n : Nat), post v → W post (n + 1) i) ∨ (∀ (post : Int32 → Prop) (n : Nat), W post n (i + 1) → W post (n + 1) i)) : ∃ v, ∀ (post : Int32 → Prop), post v → ∃ n, W post n 0 := by
  have key : ∀ m i, i + m = e → ∃ v, ∀ (post : Int32 → Prop), post v → W post (m + 1) i := by
    intro m
    induction m with
    | zero =>
      intro i hi
      obtain ⟨v, hv⟩ := hx
      refine ⟨v, fun post hp => ?_⟩
      have : i = e := by omega
      rw [this]
      exact hv post 0 hp
    | succ m ih =>
      intro i hi
      rcases hs i (by omega) with ⟨v, hv⟩ | h
      · exact ⟨v, fun post hp => hv post (m + 1) hp⟩
      · obtain ⟨v, hv⟩ := ih (i + 1) (by omega)
        exact ⟨v, fun post hp => h post (m + 1) (hv post hp)⟩
  obtain ⟨v, hv⟩ := key e 0 (by omega)
  exact ⟨v, fun post hp => ⟨e + 1, hv post hp⟩⟩
section
variable {f1 f2 f3 f4 : Int32} {f5 : Int64} {f6 f7 : Int32} {a1 a2 a3 a4 a5 a6 a7 a8 a9 a10 a11 a12 a13 a14 a15 a16 a17 a18 a19 a20 a21 a22 : Nat → Int32}
theorem tk_freeP {post : Int32 → Prop} (H0 : (∀ p, p < 6 → a5 p ≠ 0) → post (-1)) (H : ∀ p, p < 6 → a5 p = 0 → (∀ j, j < p → a5 j ≠ 0) → post (nI p)) : wpX_freeProcess post (f1, f2, f3, f4, f5, f6, f7, a1, a2, a3, a4, a5, a6, a7, a8, a9, a10, a11, a12, a13, a14, a15, a16, a17, a18, a19, a20, a21, a22) :=
  pk_loop (σ := Unit) (fun n i _ => wX_freeProcess_2 post f1 f2 f3 f4 f5 f6 f7 a1 a2 a3 a4 a5 a6 a7 a8 a9 a10 a11 a12 a13 a14 a15 a16 a17 a18 a19 a20 a21 a22 n (nI i)) (fun i _ => ∀ j, j < i → a5 j ≠ 0) 6 0 () (by omega) (fun j hj => absurd hj (by omega))
    (fun n _ h => pk_le 6 6 (fun _ => H0 h) (fun z => absurd z (by omega)))
    (fun n i _ hi h hw => pk_le 6 i (fun z => absurd z (by omega)) (fun _ => ⟨pk_in i 6 hi, tk_ifr i (fun z => H i hi z h) (fun z => nm_r (nI_1 i) (hw () (lt_s h z)))⟩))
theorem tk_spawn32 {post : Int32 → St1 → Prop} {p : Nat} {x : Int32} {S : Nat → Prop} (hp : p < 6) (hQ : tk_Q f1 f2 a10 S) (hS : ∀ x, S x → x < 6) (hn : ¬ S p) (h9 : ∀ k, k < 4 → a9 (4 * p + k) = 0)
    (H : ∀ g1 g2 b8 b10, tk_Q g1 g2 b10 (fun x => S x ∨ x = p) → b8 (4 * p) = x → b8 (4 * p + 1) = 0 → post (nI p) (g1, g2, f3, f4, f5, f6, f7, a1, a2, a3, a4, upd a5 p 1, a6, a7, b8, a9, b10, a11, a12, a13, a14, a15, a16, a17, a18, a19, a20, a21, a22)) :
    ∃ n, wX_spawn_32 post x (nI p) f1 f2 f3 f4 f5 f6 f7 n (nI (4 * p)) a1 a2 a3 a4 a5 a6 a7 a8 a9 a10 a11 a12 a13 a14 a15 a16 a17 a18 a19 a20 a21 a22 := by
  refine pk_loop (fun n i b => wX_spawn_32 post x (nI p) f1 f2 f3 f4 f5 f6 f7 n (nI i) a1 a2 a3 a4 a5 a6 a7 b a9 a10 a11 a12 a13 a14 a15 a16 a17 a18 a19 a20 a21 a22) (fun i b => 4 * p ≤ i ∧ ∀ y, 4 * p ≤ y → y < i → b y = 0) (4 * p + 4) (4 * p) a8 (by omega) ⟨Nat.le_refl _, fun y h1 h2 => absurd h1 (by omega)⟩
    (fun n b h => pk_le (4 * p + 4) (4 * p + 4) (fun _ => ?_) (fun z => absurd z (by omega)) (tk_i4 p 4))
    (fun n i b hi h hw => pk_le (4 * p + 4) i (fun z => absurd z (by omega)) (fun _ => ?_) (tk_i4 p 4))
  · refine tk_st (4 * p) x (tk_m4 p) (by omega) rfl (tk_st p 1 rfl hp rfl ?_)
    refine tk_enqueue hp hQ hS hn (fun k g2 b10 hk hQ' => H _ g2 _ b10 hQ' pk_us ?_)
    rw [pk_un (by omega)]
    exact h.2 _ (by omega) (by omega)
  · have h0 := h.1
    have e9 : a9 i = 0 := by
      have := h9 (i - 4 * p) (by omega)
      rw [show 4 * p + (i - 4 * p) = i by omega] at this
      exact this
    refine tk_st i 0 rfl (by omega) rfl (tk_st i 0 rfl (by omega) rfl ?_)
    rw [tk_u0 e9]
    refine nm_r (nI_1 i) (hw _ ⟨by omega, fun y hy hy' => ?_⟩)
    by_cases e : y = i
    · rw [e, pk_us]
    · rw [pk_un e]
      exact h.2 y hy (by omega)
theorem tk_spawn {post : Int32 → St1 → Prop} {e q : Nat} {s x : Int32} (h : tk_I e q 6 (f1, f2, f3, f4, f5, f6, f7, a1, a2, a3, a4, a5, a6, a7, a8, a9, a10, a11, a12, a13, a14, a15, a16, a17, a18, a19, a20, a21, a22)) (H0 : (∀ p, p < 6 → a5 p ≠ 0) → post (-1000) (f1, f2, f3, f4, f5, f6, f7, a1, a2, a3, a4, a5, a6, a7, a8, a9, a10, a11, a12, a13, a14, a15, a16, a17, a18, a19, a20, a21, a22))
    (H : ∀ p g1 g2 b8 b10, p < 6 → a5 p = 0 → (∀ j, j < p → a5 j ≠ 0) → tk_I e q 6 (g1, g2, f3, f4, f5, f6, f7, a1, a2, a3, a4, upd a5 p 1, upd a6 p s, upd a7 p (-1), b8, a9, b10, a11, a12, a13, a14, a15, a16, a17, a18, a19, a20, a21, a22) → b8 (4 * p) = x → b8 (4 * p + 1) = 0 →
      post (nI p) (g1, g2, f3, f4, f5, f6, f7, a1, a2, a3, a4, upd a5 p 1, upd a6 p s, upd a7 p (-1), b8, a9, b10, a11, a12, a13, a14, a15, a16, a17, a18, a19, a20, a21, a22)) : wpX_spawn post (f1, f2, f3, f4, f5, f6, f7, a1, a2, a3, a4, a5, a6, a7, a8, a9, a10, a11, a12, a13, a14, a15, a16, a17, a18, a19, a20, a21, a22) s x := by
  obtain ⟨hC, hP, hQ, hD, hM, hL, h5, h6⟩ := h
  refine tk_freeP (fun h0 => br_f (by decide) (H0 h0)) (fun p hp h0 hm => br_t (nI_pos' (by omega)) (tk_st p (-1) rfl hp rfl (tk_st p s rfl hp rfl (nm_r (tk_m4 p) ?_))))
  have hna : ¬ tk_al a5 p := fun ha => tk_al0 ha h0
  refine tk_spawn32 hp hQ (fun x hx => hx.1) (fun hs => hna (Or.inl hs.2.1)) (fun k hk => (hL p hp hna k hk).1) (fun g1 g2 b8 b10 hQ' e1 e2 => H p g1 g2 b8 b10 hp h0 hm ⟨hC, tk_P_new hP h0 (Or.inl rfl), tk_Q_mono hQ' (fun y hy => ?_), hD, hM, tk_L_al hL (Or.inl rfl), h5, h6⟩ e1 e2)
  rcases hy with z | z
  · refine ⟨z.1, ?_, z.2.2⟩
    rw [pk_un (fun e => hna (Or.inl (by rw [← e]; exact z.2.1)))]
    exact z.2.1
  · rw [z]
    exact ⟨hp, pk_us, by omega⟩
/-! children -/
theorem tk_hasCh {p : Nat} : ∃ v, ∀ (post : Int32 → Prop), post v → wpX_hasChild post (f1, f2, f3, f4, f5, f6, f7, a1, a2, a3, a4, a5, a6, a7, a8, a9, a10, a11, a12, a13, a14, a15, a16, a17, a18, a19, a20, a21, a22) (nI p) :=
  tk_det (fun post n i => wX_hasChild_2 post (nI p) f1 f2 f3 f4 f5 f6 f7 a1 a2 a3 a4 a5 a6 a7 a8 a9 a10 a11 a12 a13 a14 a15 a16 a17 a18 a19 a20 a21 a22 n (nI i)) 6 ⟨0, fun post n h => pk_le 6 6 (fun _ => h) (fun z => absurd z (by omega))⟩ (fun i hi => by
    by_cases e : a5 i = 0
    · exact Or.inr (fun post n h => pk_le 6 i (fun z => absurd z (by omega)) (fun _ => ⟨pk_in i 6 hi, tk_ifr i (fun _ => nm_r (nI_1 i) h) (fun z => absurd e z)⟩))
    · by_cases g : a7 i = nI p
      · exact Or.inl ⟨1, fun post n h => pk_le 6 i (fun z => absurd z (by omega)) (fun _ => ⟨pk_in i 6 hi, tk_ifr i (fun z => absurd z e) (fun _ => ⟨pk_in i 6 hi, tk_ifr i (fun _ => h) (fun z => absurd g z)⟩)⟩)⟩
      · exact Or.inr (fun post n h => pk_le 6 i (fun z => absurd z (by omega)) (fun _ => ⟨pk_in i 6 hi, tk_ifr i (fun z => absurd z e) (fun _ => ⟨pk_in i 6 hi, tk_ifr i (fun z => absurd z g) (fun _ => nm_r (nI_1 i) h)⟩)⟩)))
theorem tk_endCh {p : Nat} : ∃ v, ∀ (post : Int32 → Prop), post v → wpX_endedChild post (f1, f2, f3, f4, f5, f6, f7, a1, a2, a3, a4, a5, a6, a7, a8, a9, a10, a11, a12, a13, a14, a15, a16, a17, a18, a19, a20, a21, a22) (nI p) :=
  tk_det (fun post n i => wX_endedChild_2 post (nI p) f1 f2 f3 f4 f5 f6 f7 a1 a2 a3 a4 a5 a6 a7 a8 a9 a10 a11 a12 a13 a14 a15 a16 a17 a18 a19 a20 a21 a22 n (nI i)) 6 ⟨-1, fun post n h => pk_le 6 6 (fun _ => h) (fun z => absurd z (by omega))⟩ (fun i hi => by
    by_cases e : a5 i = 3
    · by_cases g : a7 i = nI p
      · exact Or.inl ⟨nI i, fun post n h => pk_le 6 i (fun z => absurd z (by omega)) (fun _ => ⟨pk_in i 6 hi, tk_ifr i (fun _ => ⟨pk_in i 6 hi, tk_ifr i (fun _ => h) (fun z => absurd g z)⟩) (fun z => absurd e z)⟩)⟩
      · exact Or.inr (fun post n h => pk_le 6 i (fun z => absurd z (by omega)) (fun _ => ⟨pk_in i 6 hi, tk_ifr i (fun _ => ⟨pk_in i 6 hi, tk_ifr i (fun z => absurd z g) (fun _ => nm_r (nI_1 i) h)⟩) (fun z => absurd e z)⟩))
    · exact Or.inr (fun post n h => pk_le 6 i (fun z => absurd z (by omega)) (fun _ => ⟨pk_in i 6 hi, tk_ifr i (fun z => absurd z e) (fun _ => nm_r (nI_1 i) h)⟩)))
theorem tk_endedC {post : Int32 → Prop} {p : Nat} (H0 : post (-1)) (H : ∀ c, c < 6 → a5 c = 3 → a7 c = nI p → post (nI c)) : wpX_endedChild post (f1, f2, f3, f4, f5, f6, f7, a1, a2, a3, a4, a5, a6, a7, a8, a9, a10, a11, a12, a13, a14, a15, a16, a17, a18, a19, a20, a21, a22) (nI p) :=
  pk_loop (σ := Unit) (fun n i _ => wX_endedChild_2 post (nI p) f1 f2 f3 f4 f5 f6 f7 a1 a2 a3 a4 a5 a6 a7 a8 a9 a10 a11 a12 a13 a14 a15 a16 a17 a18 a19 a20 a21 a22 n (nI i)) (fun _ _ => True) 6 0 () (by omega) trivial
    (fun n _ _ => pk_le 6 6 (fun _ => H0) (fun z => absurd z (by omega)))
    (fun n i _ hi _ hw => pk_le 6 i (fun z => absurd z (by omega)) (fun _ => ⟨pk_in i 6 hi, tk_ifr i (fun e => ⟨pk_in i 6 hi, tk_ifr i (fun g => H i hi e g) (fun _ => nm_r (nI_1 i) (hw () trivial))⟩) (fun _ => nm_r (nI_1 i) (hw () trivial))⟩))
theorem tk_takeChild {post : St1 → Prop} {e q r p x y : Nat} (h : tk_I e q r (f1, f2, f3, f4, f5, f6, f7, a1, a2, a3, a4, a5, a6, a7, a8, a9, a10, a11, a12, a13, a14, a15, a16, a17, a18, a19, a20, a21, a22)) (hx : x < 24) (hy : y < 24) (H : ∀ b5 b8, tk_I e q r (f1, f2, f3, f4, f5, f6, f7, a1, a2, a3, a4, b5, a6, a7, b8, a9, a10, a11, a12, a13, a14, a15, a16, a17, a18, a19, a20, a21, a22) → post (f1, f2, f3, f4, f5, f6, f7, a1, a2, a3, a4, b5, a6, a7, b8, a9, a10, a11, a12, a13, a14, a15, a16, a17, a18, a19, a20, a21, a22)) : wpX_takeChild post (f1, f2, f3, f4, f5, f6, f7, a1, a2, a3, a4, a5, a6, a7, a8, a9, a10, a11, a12, a13, a14, a15, a16, a17, a18, a19, a20, a21, a22) (nI p) (nI x) (nI y) := by
  obtain ⟨hC, hP, hQ, hD, hM, hL, h5, h6⟩ := h
  refine tk_endedC (br_f (by decide) (tk_st x (-1) rfl hx rfl (H _ _ ⟨hC, hP, hQ, hD, hM, hL, h5, h6⟩))) (fun c hc h3 _ => br_t (nI_pos' (by omega)) ⟨pk_in c 6 hc, tk_st x _ rfl hx rfl (tk_st y _ rfl hy rfl (tk_st c 0 rfl hc rfl (H _ _ ⟨hC, tk_P_0 hP h3, tk_Q_mono hQ (fun z hz => ⟨hz.1, ?_, hz.2.2⟩), hD, hM, tk_L_na hL (fun ha => tk_al3 ha h3), h5, h6⟩)))⟩)
  rw [pk_un (fun e => by have y := hz.2.1; rw [e, h3] at y; exact absurd y (by decide))]
  exact hz.2.1
/-! would it wait -/
theorem tk_endAt_d {post : Int32 → Prop} {p d : Nat} (hp : p < 6) (hd : d < 4) (H : post (a9 (4 * p + d))) : wpX_endAt post (f1, f2, f3, f4, f5, f6, f7, a1, a2, a3, a4, a5, a6, a7, a8, a9, a10, a11, a12, a13, a14, a15, a16, a17, a18, a19, a20, a21, a22) (nI p) (nI d) := by
  refine br_f (nI_pos (by omega)) (br_t (nI_le (b := 3) (by omega) (by omega)) ⟨pk_in (4 * p + d) 24 (by omega) (tk_i4 p d), ?_⟩)
  rw [tk_i4, nI_clamp (by omega)]
  exact H
theorem tk_endAt_o {post : Int32 → Prop} {p : Nat} {v : Int32} (hn : ∀ d, d < 4 → v ≠ nI d) (H : post 0) : wpX_endAt post (f1, f2, f3, f4, f5, f6, f7, a1, a2, a3, a4, a5, a6, a7, a8, a9, a10, a11, a12, a13, a14, a15, a16, a17, a18, a19, a20, a21, a22) (nI p) v := by
  refine br_c (fun _ => H) (fun h0 => br_c (fun h3 => ?_) (fun _ => H))
  obtain ⟨d, hd, e⟩ := nI_of2 (M := 3) (n := 3) (by decide) h0 h3
  exact absurd e (hn d (by omega))
/-- the answer where the instruction at i reads or writes -/
theorem tk_w56 {p i : Nat} {o : Int32} (hC : tk_C a2 a3) (hD : tk_D a9 a11 a12 a14 a15) (hp : p < 6) (hi : i < 64) (ho : o = 16 ∨ o = 17) : ∃ v, ∀ (post : Int32 → Prop), post v → wX_wouldWait_56 post (nI p) (nI i) o f1 f2 f3 f4 f5 f6 f7 a1 a2 a3 a4 a5 a6 a7 a8 a9 a10 a11 a12 a13 a14 a15 a16 a17 a18 a19 a20 a21 a22 := by
  obtain ⟨_, b, hb, eb⟩ := hC i hi
  have ex : (4 : Int32) * nI p + a3 (nI i).toNatClampNeg = nI (4 * p + b) := by rw [tk_at eb, tk_i4]
  have start : ∀ (post : Int32 → Prop), wpX_endAt (fun r_9 => (((r_9 = 0 → (post 0)) ∧ (¬ r_9 = 0 → (wpX_isReading (fun r_11 => (((o = 16 → (wX_wouldWait_100 post o r_9 1 r_11 f1 f2 f3 f4 f5 f6 f7 a1 a2 a3 a4 a5 a6 a7 a8 a9 a10 a11 a12 a13 a14 a15 a16 a17 a18 a19 a20 a21 a22)) ∧ (¬ o = 16 → (wX_wouldWait_100 post o r_9 0 r_11 f1 f2 f3 f4 f5 f6 f7 a1 a2 a3 a4 a5 a6 a7 a8 a9 a10 a11 a12 a13 a14 a15 a16 a17 a18 a19 a20 a21 a22))))) (f1, f2, f3, f4, f5, f6, f7, a1, a2, a3, a4, a5, a6, a7, a8, a9, a10, a11, a12, a13, a14, a15, a16, a17, a18, a19, a20, a21, a22) r_9))))) (f1, f2, f3, f4, f5, f6, f7, a1, a2, a3, a4, a5, a6, a7, a8, a9, a10, a11, a12, a13, a14, a15, a16, a17, a18, a19, a20, a21, a22) (nI p) (a8 (4 * p + b)) → wX_wouldWait_56 post (nI p) (nI i) o f1 f2 f3 f4 f5 f6 f7 a1 a2 a3 a4 a5 a6 a7 a8 a9 a10 a11 a12 a13 a14 a15 a16 a17 a18 a19 a20 a21 a22 := fun post h => by
    refine ⟨pk_in i 64 hi, pk_in (4 * p + b) 24 (by omega) ex, ?_⟩
    rw [ex, nI_clamp (by omega)]
    exact h
  by_cases hd : ∃ d, d < 4 ∧ a8 (4 * p + b) = nI d
  · obtain ⟨d, hd, ed⟩ := hd
    obtain ⟨n, hn, en⟩ := hD.1 (4 * p + d) (by omega)
    by_cases n0 : n = 0
    · refine ⟨0, fun post h => start post ?_⟩
      rw [ed]
      refine tk_endAt_d hp hd ?_
      rw [en, n0]
      exact br_t rfl h
    · obtain ⟨k, hk, hnk⟩ := tk_end7 hn n0
      obtain ⟨r, w, _, ⟨c, hc, ec⟩⟩ := hD.2 k hk
      have l1 := tk_cnt_le a9 (nI (1 + 2 * k)) 24
      have l2 := tk_cnt_le a9 (nI (2 + 2 * k)) 24
      have go : ∀ (v : Int32), (∀ (post : Int32 → Prop), post v → wpX_isReading (fun r_11 => (((o = 16 → (wX_wouldWait_100 post o (nI n) 1 r_11 f1 f2 f3 f4 f5 f6 f7 a1 a2 a3 a4 a5 a6 a7 a8 a9 a10 a11 a12 a13 a14 a15 a16 a17 a18 a19 a20 a21 a22)) ∧ (¬ o = 16 → (wX_wouldWait_100 post o (nI n) 0 r_11 f1 f2 f3 f4 f5 f6 f7 a1 a2 a3 a4 a5 a6 a7 a8 a9 a10 a11 a12 a13 a14 a15 a16 a17 a18 a19 a20 a21 a22))))) (f1, f2, f3, f4, f5, f6, f7, a1, a2, a3, a4, a5, a6, a7, a8, a9, a10, a11, a12, a13, a14, a15, a16, a17, a18, a19, a20, a21, a22) (nI n)) → ∃ v, ∀ (post : Int32 → Prop), post v → wX_wouldWait_56 post (nI p) (nI i) o f1 f2 f3 f4 f5 f6 f7 a1 a2 a3 a4 a5 a6 a7 a8 a9 a10 a11 a12 a13 a14 a15 a16 a17 a18 a19 a20 a21 a22 := fun v hv => by
        refine ⟨v, fun post h => start post ?_⟩
        rw [ed]
        refine tk_endAt_d hp hd ?_
        rw [en]
        exact br_f (tk_ne0 (by omega)) (hv post h)
      rcases ho with eo | eo
      · subst eo
        rcases hnk with q | q
        · by_cases cc : c = 0
          · by_cases ww : tk_cnt a9 (nI (2 + 2 * k)) 24 = 0
            · exact go 0 (fun post h => tk_isR (by omega) (fun z => absurd z (by omega)) (fun _ => br_t rfl (br_t rfl (tk_pipeOf (Or.inl q) hk (br_t rfl ⟨pk_in k 3 hk, br_t (by rw [tk_at ec, cc]; rfl) ⟨pk_in k 3 hk, br_t (by rw [tk_at w, ww]; decide) h⟩⟩)))))
            · exact go 1 (fun post h => tk_isR (by omega) (fun z => absurd z (by omega)) (fun _ => br_t rfl (br_t rfl (tk_pipeOf (Or.inl q) hk (br_t rfl ⟨pk_in k 3 hk, br_t (by rw [tk_at ec, cc]; rfl) ⟨pk_in k 3 hk, br_f (by rw [tk_at w]; exact nI_nle (by omega) (by omega)) h⟩⟩)))))
          · exact go 0 (fun post h => tk_isR (by omega) (fun z => absurd z (by omega)) (fun _ => br_t rfl (br_t rfl (tk_pipeOf (Or.inl q) hk (br_t rfl ⟨pk_in k 3 hk, br_f (by rw [tk_at ec]; exact tk_ne0 (by omega)) h⟩)))))
        · exact go 0 (fun post h => tk_isR (by omega) (fun _ => br_t rfl (br_f (by decide) h)) (fun z => absurd z (by omega)))
      · subst eo
        rcases hnk with q | q
        · exact go 0 (fun post h => tk_isR (by omega) (fun z => absurd z (by omega)) (fun _ => br_f (by decide) (br_f (by decide) h)))
        · by_cases cc : c = 4
          · by_cases ww : tk_cnt a9 (nI (1 + 2 * k)) 24 = 0
            · exact go 0 (fun post h => tk_isR (by omega) (fun _ => br_f (by decide) (br_t rfl (tk_pipeOf (Or.inr q) hk (br_f (by decide) ⟨pk_in k 3 hk, br_t (by rw [tk_at ec, cc]; rfl) ⟨pk_in k 3 hk, br_t (by rw [tk_at r, ww]; decide) h⟩⟩)))) (fun z => absurd z (by omega)))
            · exact go 1 (fun post h => tk_isR (by omega) (fun _ => br_f (by decide) (br_t rfl (tk_pipeOf (Or.inr q) hk (br_f (by decide) ⟨pk_in k 3 hk, br_t (by rw [tk_at ec, cc]; rfl) ⟨pk_in k 3 hk, br_f (by rw [tk_at r]; exact nI_nle (by omega) (by omega)) h⟩⟩)))) (fun z => absurd z (by omega)))
          · exact go 0 (fun post h => tk_isR (by omega) (fun _ => br_f (by decide) (br_t rfl (tk_pipeOf (Or.inr q) hk (br_f (by decide) ⟨pk_in k 3 hk, br_f (by rw [tk_at ec]; exact tk_ne (b := 4) cc) h⟩)))) (fun z => absurd z (by omega)))
  · exact ⟨0, fun post h => start post (tk_endAt_o (fun d hd' e => hd ⟨d, hd', e⟩) (br_t rfl h))⟩
/-- a process that is at a write into a full pipe with readers waits -/
theorem tk_wfull {post : Int32 → Prop} {p i b d k : Nat} (hD : tk_D a9 a11 a12 a14 a15) (hp : p < 6) (hi : i < 64) (hb : b < 4) (hd : d < 4) (hk : k < 3) (eb : a3 i = nI b) (ed : a8 (4 * p + b) = nI d) (en : a9 (4 * p + d) = nI (2 + 2 * k)) (hr : 0 < tk_cnt a9 (nI (1 + 2 * k)) 24) (ec : a12 k = nI 4) (h : post 1) : wX_wouldWait_56 post (nI p) (nI i) 17 f1 f2 f3 f4 f5 f6 f7 a1 a2 a3 a4 a5 a6 a7 a8 a9 a10 a11 a12 a13 a14 a15 a16 a17 a18 a19 a20 a21 a22 := by
  have ex : (4 : Int32) * nI p + a3 (nI i).toNatClampNeg = nI (4 * p + b) := by rw [tk_at eb, tk_i4]
  obtain ⟨r, _, _, _⟩ := hD.2 k hk
  have l1 := tk_cnt_le a9 (nI (1 + 2 * k)) 24
  refine ⟨pk_in i 64 hi, pk_in (4 * p + b) 24 (by omega) ex, ?_⟩
  rw [ex, nI_clamp (by omega), ed]
  refine tk_endAt_d hp hd ?_
  rw [en]
  exact br_f (tk_ne0 (by omega)) (tk_isR (by omega) (fun _ => br_f (by decide) (br_t rfl (tk_pipeOf (Or.inr rfl) hk (br_f (by decide) ⟨pk_in k 3 hk, br_t (by rw [tk_at ec]; rfl) ⟨pk_in k 3 hk, br_f (by rw [tk_at r]; exact nI_nle (by omega) (by omega)) h⟩⟩)))) (fun z => absurd z (by omega)))
/-- a write finds room, or no reader -/
def tk_room (a3 a8 a9 a12 : Nat → Int32) (p i : Nat) : Prop := ∀ b d k, b < 4 → d < 4 → k < 3 → a3 i = nI b → a8 (4 * p + b) = nI d → a9 (4 * p + d) = nI (2 + 2 * k) → 0 < tk_cnt a9 (nI (1 + 2 * k)) 24 → a12 k ≠ nI 4
theorem tk_would {p i : Nat} (hC : tk_C a2 a3) (hD : tk_D a9 a11 a12 a14 a15) (hp : p < 6) (hi : i < 64) (e6 : a6 p = nI i) : ∃ v : Int32, (∀ (post : Int32 → Prop), post v → wpX_wouldWait post (f1, f2, f3, f4, f5, f6, f7, a1, a2, a3, a4, a5, a6, a7, a8, a9, a10, a11, a12, a13, a14, a15, a16, a17, a18, a19, a20, a21, a22) (nI p)) ∧ (v = 0 → a1 i = 17 → tk_room a3 a8 a9 a12 p i) := by
  by_cases h14 : a1 i = 14
  · obtain ⟨v1, k1⟩ := @tk_hasCh f1 f2 f3 f4 f5 f6 f7 a1 a2 a3 a4 a5 a6 a7 a8 a9 a10 a11 a12 a13 a14 a15 a16 a17 a18 a19 a20 a21 a22 p
    obtain ⟨v2, k2⟩ := @tk_endCh f1 f2 f3 f4 f5 f6 f7 a1 a2 a3 a4 a5 a6 a7 a8 a9 a10 a11 a12 a13 a14 a15 a16 a17 a18 a19 a20 a21 a22 p
    have no : a1 i = 17 → tk_room a3 a8 a9 a12 p i := fun z => by
      rw [h14] at z
      exact absurd z (by decide)
    by_cases z1 : v1 = 0
    · exact ⟨0, fun post h => tk_ld p rfl hp e6 (tk_ld i rfl hi rfl (br_t h14 (k1 _ (br_t z1 h)))), fun _ => no⟩
    · by_cases z2 : 0 ≤ v2
      · exact ⟨0, fun post h => tk_ld p rfl hp e6 (tk_ld i rfl hi rfl (br_t h14 (k1 _ (br_f z1 (k2 _ (br_t z2 h)))))), fun _ => no⟩
      · exact ⟨1, fun post h => tk_ld p rfl hp e6 (tk_ld i rfl hi rfl (br_t h14 (k1 _ (br_f z1 (k2 _ (br_f z2 h)))))), fun _ => no⟩
  · by_cases h16 : a1 i = 16
    · obtain ⟨v, hv⟩ := @tk_w56 f1 f2 f3 f4 f5 f6 f7 a1 a2 a3 a4 a5 a6 a7 a8 a9 a10 a11 a12 a13 a14 a15 a16 a17 a18 a19 a20 a21 a22 p i 16 hC hD hp hi (Or.inl rfl)
      refine ⟨v, fun post h => tk_ld p rfl hp e6 (tk_ld i rfl hi h16 (br_f (by decide) (br_t rfl (hv post h)))), fun _ z => ?_⟩
      rw [h16] at z
      exact absurd z (by decide)
    · by_cases h17 : a1 i = 17
      · by_cases full : ∃ b d k, b < 4 ∧ d < 4 ∧ k < 3 ∧ a3 i = nI b ∧ a8 (4 * p + b) = nI d ∧ a9 (4 * p + d) = nI (2 + 2 * k) ∧ 0 < tk_cnt a9 (nI (1 + 2 * k)) 24 ∧ a12 k = nI 4
        · obtain ⟨b, d, k, hb, hd, hk, eb, ed, en, hr, ec⟩ := full
          exact ⟨1, fun post h => tk_ld p rfl hp e6 (tk_ld i rfl hi h17 (br_f (by decide) (br_f (by decide) (br_t rfl (tk_wfull hD hp hi hb hd hk eb ed en hr ec h))))), fun z => absurd z (by decide)⟩
        · obtain ⟨v, hv⟩ := @tk_w56 f1 f2 f3 f4 f5 f6 f7 a1 a2 a3 a4 a5 a6 a7 a8 a9 a10 a11 a12 a13 a14 a15 a16 a17 a18 a19 a20 a21 a22 p i 17 hC hD hp hi (Or.inr rfl)
          exact ⟨v, fun post h => tk_ld p rfl hp e6 (tk_ld i rfl hi h17 (br_f (by decide) (br_f (by decide) (br_t rfl (hv post h))))), fun _ _ b d k hb hd hk eb ed en hr ec => full ⟨b, d, k, hb, hd, hk, eb, ed, en, hr, ec⟩⟩
      · exact ⟨0, fun post h => tk_ld p rfl hp e6 (tk_ld i rfl hi rfl (br_f h14 (br_f h16 (br_f h17 h)))), fun _ z => absurd z h17⟩
end
end
section
section
variable {f1 f2 f3 f4 : Int32} {f5 : Int64} {f6 f7 : Int32} {a1 a2 a3 a4 a5 a6 a7 a8 a9 a10 a11 a12 a13 a14 a15 a16 a17 a18 a19 a20 a21 a22 : Nat → Int32}
/-! the hand -/
theorem tj_choose {post : Int32 → St1 → Prop} (hh : ∃ h, h < 10 ∧ f3 = nI h) (H : ∀ v b18, v < 10 → nI v ≠ f4 → post (nI v) (f1, f2, nI v, f4, f5, f6, f7, a1, a2, a3, a4, a5, a6, a7, a8, a9, a10, a11, a12, a13, a14, a15, a16, a17, b18, a19, a20, a21, a22)) : wpX_chooseVictim_2 post (f1, f2, f3, f4, f5, f6, f7, a1, a2, a3, a4, a5, a6, a7, a8, a9, a10, a11, a12, a13, a14, a15, a16, a17, a18, a19, a20, a21, a22) := by
  obtain ⟨h, hh, e3⟩ := hh
  subst e3
  refine loop_m (σ := Nat × (Nat → Int32)) (fun n s => wX_chooseVictim_2_0 post f1 f2 f4 f5 f6 f7 n (nI s.1) a1 a2 a3 a4 a5 a6 a7 a8 a9 a10 a11 a12 a13 a14 a15 a16 a17 s.2 a19 a20 a21 a22) (fun s => s.1 < 10) (fun s => 2 * (10 - tk_cnt s.2 0 10) + (if nI ((s.1 + 1) % 10) = f4 then 1 else 0)) ?_ (h, a18) hh
  rintro n ⟨k, b⟩ hk hw
  have hk' : k < 10 := hk
  have e1 : (nI k + 1) - (nI k + 1) / 10 * 10 = nI ((k + 1) % 10) := by
    rw [nI_1]
    exact pk_rem (a := k + 1) (d := 10) (by omega) (by omega) (by omega)
  show wX_chooseVictim_2_0 post f1 f2 f4 f5 f6 f7 (n + 1) (nI k) a1 a2 a3 a4 a5 a6 a7 a8 a9 a10 a11 a12 a13 a14 a15 a16 a17 b a19 a20 a21 a22
  refine ⟨by decide, nm_r e1 ?_⟩
  refine br_c (fun e => ?_) (fun e => ?_)
  · refine hw ((k + 1) % 10, b) (Nat.mod_lt _ (by omega)) ?_
    show 2 * (10 - tk_cnt b 0 10) + (if nI (((k + 1) % 10 + 1) % 10) = f4 then 1 else 0) < 2 * (10 - tk_cnt b 0 10) + (if nI ((k + 1) % 10) = f4 then 1 else 0)
    rw [if_pos e, if_neg (by rw [← e]; exact tk_ne (by omega))]
    omega
  · refine br_c (fun _ => H _ _ (by omega) e) (fun _ => ⟨pk_in ((k + 1) % 10) 10 (by omega), ?_⟩)
    refine tk_ifr ((k + 1) % 10) (fun _ => H _ _ (by omega) e) (fun z => tk_st ((k + 1) % 10) 0 rfl (by omega) rfl ?_)
    refine hw ((k + 1) % 10, upd b ((k + 1) % 10) 0) (Nat.mod_lt _ (by omega)) ?_
    show 2 * (10 - tk_cnt (upd b ((k + 1) % 10) 0) 0 10) + (if nI (((k + 1) % 10 + 1) % 10) = f4 then 1 else 0) < 2 * (10 - tk_cnt b 0 10) + (if nI ((k + 1) % 10) = f4 then 1 else 0)
    have hl := tk_cnt_le (upd b ((k + 1) % 10) 0) 0 10
    rw [tk_cnt_add (by omega) z] at hl ⊢
    rw [if_neg e]
    split <;> omega
/-! a frame is moved out -/
theorem tj_mv74 {post : St1 → Prop} {f s : Nat} (hf : f < 10) (hs : s < 24) (H : ∀ b16, (∀ x, x < 24 → b16 x = if a16 x = nI (1 + f) then nI (32 + s) else a16 x) → post (f1, f2, f3, f4, f5, f6, f7, a1, a2, a3, a4, a5, a6, a7, a8, a9, a10, a11, a12, a13, a14, a15, b16, a17, a18, a19, a20, a21, a22)) :
    ∃ n, wX_moveOut_2_74 post (nI f) (nI s) f1 f2 f3 f4 f5 f6 f7 n 0 a1 a2 a3 a4 a5 a6 a7 a8 a9 a10 a11 a12 a13 a14 a15 a16 a17 a18 a19 a20 a21 a22 := by
  refine pk_loop (fun n i b => wX_moveOut_2_74 post (nI f) (nI s) f1 f2 f3 f4 f5 f6 f7 n (nI i) a1 a2 a3 a4 a5 a6 a7 a8 a9 a10 a11 a12 a13 a14 a15 b a17 a18 a19 a20 a21 a22) (fun i b => ∀ x, b x = if x < i ∧ a16 x = nI (1 + f) then nI (32 + s) else a16 x) 24 0 a16 (by omega) tk_rl_0
    (fun n b h => pk_le 24 24 (fun _ => H b (tk_rl_e h)) (fun z => absurd z (by omega)))
    (fun n i b hi h hw => pk_le 24 i (fun z => absurd z (by omega)) (fun _ => ⟨pk_in i 24 hi, ?_⟩))
  refine ek_if (d := a16 i = nI (1 + f)) (by rw [nI_clamp (by omega), tk_rl_i h, tk_1a]) (fun e => ?_) (fun e => ?_)
  · exact tk_st i (nI (32 + s)) rfl hi (by rw [tk_32a, tk_b8 _ (by omega)]) (nm_r (nI_1 i) (hw _ (tk_rl_s h e)))
  · exact nm_r (nI_1 i) (hw _ (tk_rl_n h e))
theorem tj_mv19 {post : St1 → Prop} {f s c : Nat} (hf : f < 10) (hs : s < 24) (hc : a17 f = nI c) (hc' : c < 128)
    (H : ∀ b16 b21, (∀ x, x < 24 → b16 x = if a16 x = nI (1 + f) then nI (32 + s) else a16 x) → tk_cp a21 b21 a19 (8 * s) (8 * f) 8 → post (f1, f2, f3, f4, f5, f6, f7, a1, a2, a3, a4, a5, a6, a7, a8, a9, a10, a11, a12, a13, a14, a15, b16, upd a17 f 0, a18, a19, upd a20 s (a17 f), b21, a22)) :
    ∃ n, wX_moveOut_2_19 post (nI f) (nI s) f1 f2 f3 f4 f5 f6 f7 n 0 a1 a2 a3 a4 a5 a6 a7 a8 a9 a10 a11 a12 a13 a14 a15 a16 a17 a18 a19 a20 a21 a22 := by
  refine pk_loop (fun n i b => wX_moveOut_2_19 post (nI f) (nI s) f1 f2 f3 f4 f5 f6 f7 n (nI i) a1 a2 a3 a4 a5 a6 a7 a8 a9 a10 a11 a12 a13 a14 a15 a16 a17 a18 a19 a20 b a22) (fun i b => tk_cp a21 b a19 (8 * s) (8 * f) i) 8 0 a21 (by omega) tk_cp_0
    (fun n b h => pk_le 8 8 (fun _ => ⟨pk_in f 10 hf, ?_⟩) (fun z => absurd z (by omega)))
    (fun n i b hi h hw => pk_le 8 i (fun z => absurd z (by omega)) (fun _ => ⟨pk_in (8 * f + i) 80 (by omega) (tk_i8 f i), ?_⟩))
  · exact tk_st s (a17 f) rfl hs (by rw [nI_clamp (by omega), hc, tk_nar hc']) (tk_st f 0 rfl hf rfl (tj_mv74 hf hs (fun b16 hb => H b16 b hb h)))
  · exact tk_st (8 * s + i) (a19 (8 * f + i)) (tk_i8 s i) (by omega) (by rw [tk_i8, nI_clamp (by omega)]) (nm_r (nI_1 i) (hw _ (tk_cp_s h)))
theorem tj_moveOut {post : St1 → Prop} {f : Nat} (hM : tk_M f3 a16 a17 a20) (hf : f < 10) (hc : 0 < tk_cnt a16 (nI (1 + f)) 24)
    (H : ∀ s b16 b21, s < 24 → tk_cnt a16 (nI (32 + s)) 24 = 0 → (∀ x, x < 24 → b16 x = if a16 x = nI (1 + f) then nI (32 + s) else a16 x) → tk_cp a21 b21 a19 (8 * s) (8 * f) 8 → post (f1, f2, f3, f4, f5, f6, f7, a1, a2, a3, a4, a5, a6, a7, a8, a9, a10, a11, a12, a13, a14, a15, b16, upd a17 f 0, a18, a19, upd a20 s (a17 f), b21, a22)) :
    wpX_moveOut_2 post (f1, f2, f3, f4, f5, f6, f7, a1, a2, a3, a4, a5, a6, a7, a8, a9, a10, a11, a12, a13, a14, a15, a16, a17, a18, a19, a20, a21, a22) (nI f) := by
  obtain ⟨s, ⟨hs, h0⟩, hl⟩ := pk_least (fun s => s < 24 ∧ tk_cnt a16 (nI (32 + s)) 24 = 0) (tk_pig hf hc)
  obtain ⟨m1, m2, m3, m4⟩ := hM
  refine pk_loop (σ := Unit) (fun n i _ => wX_moveOut_2_2 post (nI f) f1 f2 f3 f4 f5 f6 f7 a1 a2 a3 a4 a5 a6 a7 a8 a9 a10 a11 a12 a13 a14 a15 a16 a17 a18 a19 a20 a21 a22 n (nI i)) (fun _ _ => True) s 0 () (by omega) trivial
    (fun n _ _ => ⟨pk_in s 24 hs, ?_⟩) (fun n i _ hi _ hw => ⟨pk_in i 24 (by omega), ?_⟩)
  · have hcl := tk_cnt_le a16 (nI (1 + f)) 24
    exact pk_le 0 0 (fun _ => tj_mv19 hf hs (m3 f hf) (by omega) (fun b16 b21 h1 h2 => H s b16 b21 hs h0 h1 h2)) (fun z => absurd z (by omega)) (tk_at (by rw [m4 s hs, h0]))
  · have hcl := tk_cnt_le a16 (nI (32 + i)) 24
    have hne : tk_cnt a16 (nI (32 + i)) 24 ≠ 0 := fun z => hl i hi ⟨by omega, z⟩
    exact pk_le (tk_cnt a16 (nI (32 + i)) 24) 0 (fun z => absurd z (by omega)) (fun _ => nm_r (nI_1 i) (hw () trivial)) (tk_at (m4 i (by omega)))
/-! a free frame -/
theorem tj_newFrame {post : Int32 → St1 → Prop} {w : Nat → Nat → Int32} (hN : tk_N f3 a16 a17 a19 a20 a21 w)
    (H : ∀ f h b16 b17 b18 b20 b21, f < 10 → tk_N h b16 b17 a19 b20 b21 w → tk_nf f4 f a16 b16 → post (nI f) (f1, f2, h, f4, f5, f6, f7, a1, a2, a3, a4, a5, a6, a7, a8, a9, a10, a11, a12, a13, a14, a15, b16, b17, b18, a19, b20, b21, a22)) : wpX_newFrame_2 post (f1, f2, f3, f4, f5, f6, f7, a1, a2, a3, a4, a5, a6, a7, a8, a9, a10, a11, a12, a13, a14, a15, a16, a17, a18, a19, a20, a21, a22) := by
  have hM := hN.1
  obtain ⟨m1, m2, m3, m4⟩ := hN.1
  by_cases hx : ∃ k, k < 10 ∧ tk_cnt a16 (nI (1 + k)) 24 = 0
  · obtain ⟨f, ⟨hf, h0⟩, hl⟩ := pk_least (fun k => k < 10 ∧ tk_cnt a16 (nI (1 + k)) 24 = 0) hx
    refine pk_loop (σ := Unit) (fun n i _ => wX_newFrame_2_2 post f1 f2 f3 f4 f5 f6 f7 a1 a2 a3 a4 a5 a6 a7 a8 a9 a10 a11 a12 a13 a14 a15 a16 a17 a18 a19 a20 a21 a22 n (nI i)) (fun _ _ => True) f 0 () (by omega) trivial
      (fun n _ _ => pk_le 10 f (fun z => absurd z (by omega)) (fun _ => ⟨pk_in f 10 hf, ?_⟩)) (fun n i _ hi _ hw => pk_le 10 i (fun z => absurd z (by omega)) (fun _ => ⟨pk_in i 10 (by omega), ?_⟩))
    · exact pk_le 0 0 (fun _ => tk_st f 1 rfl hf rfl (H f f3 a16 a17 _ a20 a21 hf hN ⟨h0, fun _ _ _ _ _ _ => rfl, fun _ _ z => z, fun _ _ _ _ _ => rfl⟩)) (fun z => absurd z (by omega)) (tk_at (by rw [m3 f hf, h0]))
    · have hcl := tk_cnt_le a16 (nI (1 + i)) 24
      have hne : tk_cnt a16 (nI (1 + i)) 24 ≠ 0 := fun z => hl i hi ⟨by omega, z⟩
      exact pk_le (tk_cnt a16 (nI (1 + i)) 24) 0 (fun z => absurd z (by omega)) (fun _ => nm_r (nI_1 i) (hw () trivial)) (tk_at (m3 i (by omega)))
  · refine pk_loop (σ := Unit) (fun n i _ => wX_newFrame_2_2 post f1 f2 f3 f4 f5 f6 f7 a1 a2 a3 a4 a5 a6 a7 a8 a9 a10 a11 a12 a13 a14 a15 a16 a17 a18 a19 a20 a21 a22 n (nI i)) (fun _ _ => True) 10 0 () (by omega) trivial
      (fun n _ _ => pk_le 10 10 (fun _ => ?_) (fun z => absurd z (by omega))) (fun n i _ hi _ hw => pk_le 10 i (fun z => absurd z (by omega)) (fun _ => ⟨pk_in i 10 (by omega), ?_⟩))
    · refine tj_choose m1 (fun v b18 hv hp => ?_)
      have hc : 0 < tk_cnt a16 (nI (1 + v)) 24 := by
        rcases Nat.eq_zero_or_pos (tk_cnt a16 (nI (1 + v)) 24) with z | z
        · exact absurd ⟨v, hv, z⟩ hx
        · exact z
      have hN' : tk_N (nI v) a16 a17 a19 a20 a21 w := ⟨⟨⟨v, hv, rfl⟩, m2, m3, m4⟩, hN.2⟩
      refine tj_moveOut hN'.1 hv hc (fun s b16 b21 hs h0 hb hcp => ?_)
      refine tk_st v 1 rfl hv rfl (H v (nI v) b16 _ _ _ b21 hv (tk_N_mv hN' hv hs h0 hb hcp.1 hcp.2) ⟨(tk_cnt_rl hb h0 (tk_ne (by omega))).2.1, fun g x hg hx' e4 ex => ?_, fun x hx' ex => ?_, fun x t hx' ht ex => ?_⟩)
      · rw [hb x hx', if_neg (fun z => hp (by rw [e4]; exact congrArg nI (by have := tk_inj (z.symm.trans ex); omega)))]
      · rw [hb x hx', if_neg (by rw [ex]; exact (tk_ne0 (by omega)).symm), ex]
      · rw [hb x hx', if_neg (by rw [ex]; exact tk_ne (by omega))]
    · have hcl := tk_cnt_le a16 (nI (1 + i)) 24
      have hne : tk_cnt a16 (nI (1 + i)) 24 ≠ 0 := fun z => hx ⟨i, by omega, z⟩
      exact pk_le (tk_cnt a16 (nI (1 + i)) 24) 0 (fun z => absurd z (by omega)) (fun _ => nm_r (nI_1 i) (hw () trivial)) (tk_at (m3 i (by omega)))
/-! the frame of a page -/
theorem tj_fr106 {post : Int32 → St1 → Prop} {f s : Nat} (hf : f < 10) (hs : s < 24) (H : ∀ b16, (∀ x, x < 24 → b16 x = if a16 x = nI (32 + s) then nI (1 + f) else a16 x) → post (nI f) (f1, f2, f3, f4, f5, f6, f7, a1, a2, a3, a4, a5, a6, a7, a8, a9, a10, a11, a12, a13, a14, a15, b16, a17, a18, a19, a20, a21, a22)) :
    ∃ n, wX_frameOf_2_106 post (nI s) (nI f) f1 f2 f3 f4 f5 f6 f7 n 0 a1 a2 a3 a4 a5 a6 a7 a8 a9 a10 a11 a12 a13 a14 a15 a16 a17 a18 a19 a20 a21 a22 := by
  refine pk_loop (fun n i b => wX_frameOf_2_106 post (nI s) (nI f) f1 f2 f3 f4 f5 f6 f7 n (nI i) a1 a2 a3 a4 a5 a6 a7 a8 a9 a10 a11 a12 a13 a14 a15 b a17 a18 a19 a20 a21 a22) (fun i b => ∀ x, b x = if x < i ∧ a16 x = nI (32 + s) then nI (1 + f) else a16 x) 24 0 a16 (by omega) tk_rl_0
    (fun n b h => pk_le 24 24 (fun _ => H b (tk_rl_e h)) (fun z => absurd z (by omega)))
    (fun n i b hi h hw => pk_le 24 i (fun z => absurd z (by omega)) (fun _ => ⟨pk_in i 24 hi, ?_⟩))
  refine ek_if (d := a16 i = nI (32 + s)) (by rw [nI_clamp (by omega), tk_rl_i h, tk_32a]) (fun e => ?_) (fun e => ?_)
  · exact tk_st i (nI (1 + f)) rfl hi (by rw [tk_1a, tk_b8 _ (by omega)]) (nm_r (nI_1 i) (hw _ (tk_rl_s h e)))
  · exact nm_r (nI_1 i) (hw _ (tk_rl_n h e))
theorem tj_fr47 {post : Int32 → St1 → Prop} {f s c : Nat} (hf : f < 10) (hs : s < 24) (hc : a20 s = nI c) (hc' : c < 128)
    (H : ∀ b16 b19, (∀ x, x < 24 → b16 x = if a16 x = nI (32 + s) then nI (1 + f) else a16 x) → tk_cp a19 b19 a21 (8 * f) (8 * s) 8 → post (nI f) (f1, f2, f3, f4, f5, f6, f7, a1, a2, a3, a4, a5, a6, a7, a8, a9, a10, a11, a12, a13, a14, a15, b16, upd a17 f (a20 s), a18, b19, upd a20 s 0, a21, a22)) :
    ∃ n, wX_frameOf_2_47 post (nI s) (nI f) f1 f2 f3 f4 f5 f6 f7 n 0 a1 a2 a3 a4 a5 a6 a7 a8 a9 a10 a11 a12 a13 a14 a15 a16 a17 a18 a19 a20 a21 a22 := by
  refine pk_loop (fun n i b => wX_frameOf_2_47 post (nI s) (nI f) f1 f2 f3 f4 f5 f6 f7 n (nI i) a1 a2 a3 a4 a5 a6 a7 a8 a9 a10 a11 a12 a13 a14 a15 a16 a17 a18 b a20 a21 a22) (fun i b => tk_cp a19 b a21 (8 * f) (8 * s) i) 8 0 a19 (by omega) tk_cp_0
    (fun n b h => pk_le 8 8 (fun _ => ⟨pk_in s 24 hs, ?_⟩) (fun z => absurd z (by omega)))
    (fun n i b hi h hw => pk_le 8 i (fun z => absurd z (by omega)) (fun _ => ⟨pk_in (8 * s + i) 192 (by omega) (tk_i8 s i), ?_⟩))
  · exact tk_st f (a20 s) rfl hf (by rw [nI_clamp (by omega), hc, tk_nar hc']) (tk_st s 0 rfl hs rfl (tj_fr106 hf hs (fun b16 hb => H b16 b hb h)))
  · exact tk_st (8 * f + i) (a21 (8 * s + i)) (tk_i8 f i) (by omega) (by rw [tk_i8, nI_clamp (by omega)]) (nm_r (nI_1 i) (hw _ (tk_cp_s h)))
theorem tj_frameOf {post : Int32 → St1 → Prop} {w : Nat → Nat → Int32} {x : Nat} (hx : x < 24) (hN : tk_N f3 a16 a17 a19 a20 a21 w) (hne : a16 x ≠ 0)
    (H : ∀ f h b16 b17 b18 b19 b20 b21, f < 10 → tk_N h b16 b17 b19 b20 b21 w → b16 x = nI (1 + f) → (∀ y, y < 24 → a16 y = 0 → b16 y = 0) → post (nI f) (f1, f2, h, f4, f5, f6, f7, a1, a2, a3, a4, a5, a6, a7, a8, a9, a10, a11, a12, a13, a14, a15, b16, b17, b18, b19, b20, b21, a22)) :
    wpX_frameOf_2 post (f1, f2, f3, f4, f5, f6, f7, a1, a2, a3, a4, a5, a6, a7, a8, a9, a10, a11, a12, a13, a14, a15, a16, a17, a18, a19, a20, a21, a22) (nI x) := by
  rcases hN.1.2.1 x hx with z | ⟨f, hf, z⟩ | ⟨s, hs, z⟩
  · exact absurd z hne
  · refine ⟨pk_in x 24 hx, pk_le 32 (1 + f) (fun q => absurd q (by omega)) (fun _ => ⟨pk_in x 24 hx, nm_r (e' := nI f) (by rw [tk_at z, tk_p1]) ?_⟩) (hy := tk_at z)⟩
    exact tk_st f 1 rfl hf rfl (H f f3 a16 a17 _ a19 a20 a21 hf hN z (fun _ _ e => e))
  · refine ⟨pk_in x 24 hx, pk_le 32 (32 + s) (fun _ => ⟨pk_in x 24 hx, nm_r (e' := nI s) (by rw [tk_at z, tk_s32]) ?_⟩) (fun q => absurd q (by omega)) (hy := tk_at z)⟩
    refine tj_newFrame hN (fun f h b16 b17 b18 b20 b21 hf hN' hnf => ?_)
    have hcl := tk_cnt_le b16 (nI (32 + s)) 24
    refine tj_fr47 hf hs (hN'.1.2.2.2 s hs) (by omega) (fun c16 c19 hb hcp => H f h c16 _ b18 c19 _ b21 hf (tk_N_fr hN' hf hs hnf.1 hb hcp.1 hcp.2) ?_ (fun y hy ey => ?_))
    · rw [hb x hx, if_pos (by rw [hnf.2.2.2 x s hx hs z, z])]
    · rw [hb y hy, if_neg (by rw [hnf.2.2.1 y hy ey]; exact (tk_ne0 (by omega)).symm), hnf.2.2.1 y hy ey]
theorem tj_readWord {post : Int32 → St1 → Prop} {w : Nat → Nat → Int32} {p i : Nat} (hp : p < 6) (hi : i < 32) (hN : tk_N f3 a16 a17 a19 a20 a21 w)
    (H : ∀ h b16 b17 b18 b19 b20 b21, tk_N h b16 b17 b19 b20 b21 w → (∀ y, y < 24 → a16 y = 0 → b16 y = 0) → post (w (4 * p + i / 8) (i % 8)) (f1, f2, h, f4, f5, f6, f7, a1, a2, a3, a4, a5, a6, a7, a8, a9, a10, a11, a12, a13, a14, a15, b16, b17, b18, b19, b20, b21, a22)) :
    wpX_readWord_2 post (f1, f2, f3, f4, f5, f6, f7, a1, a2, a3, a4, a5, a6, a7, a8, a9, a10, a11, a12, a13, a14, a15, a16, a17, a18, a19, a20, a21, a22) (nI p) (nI i) := by
  refine ⟨by decide, nm_r (e' := nI (4 * p + i / 8)) (by rw [tk_d8 (by omega), tk_i4]) ⟨pk_in (4 * p + i / 8) 24 (by omega), ?_⟩⟩
  refine tk_ifr (4 * p + i / 8) (fun z => ?_) (fun z => ?_)
  · have e := hN.2 (4 * p + i / 8) (i % 8) (by omega) (by omega)
    rw [tk_W0 z] at e
    have h := H f3 a16 a17 a18 a19 a20 a21 hN (fun _ _ q => q)
    rw [← e] at h
    exact h
  · refine tj_frameOf (by omega) hN z (fun f h b16 b17 b18 b19 b20 b21 hf hN' e hz => ?_)
    refine ⟨by decide, pk_in (8 * f + i % 8) 80 (by omega) (by rw [tk_r8 (by omega), tk_i8]), ?_⟩
    have e' := hN'.2 (4 * p + i / 8) (i % 8) (by omega) (by omega)
    rw [tk_Wf hf e] at e'
    rw [tk_r8 (by omega), tk_i8, nI_clamp (by omega), e']
    exact H h b16 b17 b18 b19 b20 b21 hN' hz
end
end
section
theorem tk_s4 (p a : Nat) : nI (4 * p + a) - 4 * nI p = nI a := by
  have h := pk_sub (a := 4 * p + a) (b := 4 * p) (by omega)
  rw [show 4 * p + a - 4 * p = a by omega] at h
  rw [tk_m4]
  exact h
theorem tk_fk (p c a : Nat) : nI (4 * p + a) + 4 * (nI c - nI p) = nI (4 * c + a) := by
  rw [← tk_i4 p a, ← tk_i4 c a]
  generalize nI p = x
  generalize nI c = y
  generalize nI a = z
  grind
section
variable {f1 f2 f3 f4 : Int32} {f5 : Int64} {f6 f7 : Int32} {a1 a2 a3 a4 a5 a6 a7 a8 a9 a10 a11 a12 a13 a14 a15 a16 a17 a18 a19 a20 a21 a22 : Nat → Int32}
/-! fork -/
theorem tk_fk109 {post : Int32 → St1 → Prop} {p c : Nat} {S : Nat → Prop} (hp : p < 6) (hc : c < 6) (hpc : p ≠ c) (hM : tk_M f3 a16 a17 a20) (hz : ∀ k, k < 4 → a16 (4 * c + k) = 0) (hQ : tk_Q f1 f2 a10 S) (hS : ∀ x, S x → x < 6) (hn : ¬ S c)
    (H : ∀ g1 g2 g3 g4 b10 b16 b17 b18 b19 b20 b21, tk_Q g1 g2 b10 (fun x => S x ∨ x = c) → tk_M g3 b16 b17 b20 → (∀ x, x < 24 → x < 4 * c ∨ 4 * c + 4 ≤ x → a16 x = 0 → b16 x = 0) →
      post (nI c) (g1, g2, g3, g4, f5, f6, f7, a1, a2, a3, a4, a5, a6, a7, a8, a9, b10, a11, a12, a13, a14, a15, b16, b17, b18, b19, b20, b21, a22)) :
    ∃ n, wX_fork_109 post (nI p) (nI c) n 0 f1 f2 f3 f4 f5 f6 f7 a1 a2 a3 a4 a5 a6 a7 a8 a9 a10 a11 a12 a13 a14 a15 a16 a17 a18 a19 a20 a21 a22 := by
  refine pk_loop (σ := Int32 × Int32 × (Nat → Int32) × (Nat → Int32) × (Nat → Int32) × (Nat → Int32) × (Nat → Int32) × (Nat → Int32)) (fun n i s => wX_fork_109 post (nI p) (nI c) n (nI i) f1 f2 s.1 s.2.1 f5 f6 f7 a1 a2 a3 a4 a5 a6 a7 a8 a9 a10 a11 a12 a13 a14 a15 s.2.2.1 s.2.2.2.1 s.2.2.2.2.1 s.2.2.2.2.2.1 s.2.2.2.2.2.2.1 s.2.2.2.2.2.2.2 a22)
    (fun i s => tk_M s.1 s.2.2.1 s.2.2.2.1 s.2.2.2.2.2.2.1 ∧ (∀ x, x < 24 → x < 4 * c ∨ 4 * c + 4 ≤ x → a16 x = 0 → s.2.2.1 x = 0) ∧ (∀ k, i ≤ k → k < 4 → s.2.2.1 (4 * c + k) = 0)) 4 0 (f3, f4, a16, a17, a18, a19, a20, a21) (by omega) ⟨hM, fun _ _ _ z => z, fun k _ hk => hz k hk⟩ ?_ ?_
  · rintro n ⟨g3, g4, b16, b17, b18, b19, b20, b21⟩ ⟨h1, h2, h3⟩
    refine pk_le 4 4 (fun _ => ?_) (fun z => absurd z (by omega))
    exact tk_enqueue hc hQ hS hn (fun k g2 b10 hk hQ' => H _ g2 g3 g4 b10 b16 b17 b18 b19 b20 b21 hQ' h1 h2)
  · rintro n i ⟨g3, g4, b16, b17, b18, b19, b20, b21⟩ hi ⟨h1, h2, h3⟩ hw
    have h3i : b16 (4 * c + i) = 0 := h3 i (Nat.le_refl _) hi
    refine pk_le 4 i (fun z => absurd z (by omega)) (fun _ => br_c (fun _ => ?_) (fun _ => ?_))
    · rw [tk_i4 p i, tk_i4 c i]
      refine tk_copyPage (by omega) (by omega) (by omega) h1 h3i (fun k3 k4 c16 c17 c18 c19 c20 c21 m1 m2 => nm_r (nI_1 i) (hw (k3, k4, c16, c17, c18, c19, c20, c21) ⟨m1, fun x hx hx' z => m2 x hx (by omega) (h2 x hx hx' z), fun k hk hk' => m2 _ (by omega) (by omega) (h3 k (by omega) hk')⟩))
    · rw [tk_i4 p i, tk_i4 c i]
      refine tk_sharePage (by omega) (by omega) (by omega) h1 h3i (fun c16 c17 c20 m1 m2 => nm_r (nI_1 i) (hw (g3, g4, c16, c17, b18, b19, c20, b21) ⟨m1, fun x hx hx' z => ?_, fun k hk hk' => ?_⟩))
      · show c16 x = 0
        rw [m2 x (by omega)]
        exact h2 x hx hx' z
      · show c16 (4 * c + k) = 0
        rw [m2 _ (by omega)]
        exact h3 k (by omega) hk'
theorem tk_fk41 {post : Int32 → St1 → Prop} {p c : Nat} {S : Nat → Prop} (hp : p < 6) (hc : c < 6) (hpc : p ≠ c) (hD : tk_D a9 a11 a12 a14 a15) (h9 : ∀ k, k < 4 → a9 (4 * c + k) = 0) (hM : tk_M f3 a16 a17 a20) (hz : ∀ k, k < 4 → a16 (4 * c + k) = 0) (hQ : tk_Q f1 f2 a10 S) (hS : ∀ x, S x → x < 6) (hn : ¬ S c)
    (H : ∀ g1 g2 g3 g4 b8 b9 b10 b14 b15 b16 b17 b18 b19 b20 b21, tk_D b9 a11 a12 b14 b15 → (∀ x, x < 4 * c ∨ 4 * c + 4 ≤ x → b9 x = a9 x) → tk_Q g1 g2 b10 (fun x => S x ∨ x = c) → tk_M g3 b16 b17 b20 → (∀ x, x < 24 → x < 4 * c ∨ 4 * c + 4 ≤ x → a16 x = 0 → b16 x = 0) →
      post (nI c) (g1, g2, g3, g4, f5, f6, f7, a1, a2, a3, a4, a5, a6, a7, b8, b9, b10, a11, a12, a13, b14, b15, b16, b17, b18, b19, b20, b21, a22)) :
    ∃ n, wX_fork_41 post (nI p) (nI c) n 0 f1 f2 f3 f4 f5 f6 f7 a1 a2 a3 a4 a5 a6 a7 a8 a9 a10 a11 a12 a13 a14 a15 a16 a17 a18 a19 a20 a21 a22 := by
  refine pk_loop (σ := (Nat → Int32) × (Nat → Int32) × (Nat → Int32) × (Nat → Int32)) (fun n i s => wX_fork_41 post (nI p) (nI c) n (nI i) f1 f2 f3 f4 f5 f6 f7 a1 a2 a3 a4 a5 a6 a7 s.1 s.2.1 a10 a11 a12 a13 s.2.2.1 s.2.2.2 a16 a17 a18 a19 a20 a21 a22)
    (fun i s => tk_D s.2.1 a11 a12 s.2.2.1 s.2.2.2 ∧ (∀ x, x < 4 * c ∨ 4 * c + 4 ≤ x → s.2.1 x = a9 x) ∧ (∀ k, i ≤ k → k < 4 → s.2.1 (4 * c + k) = 0)) 4 0 (a8, a9, a14, a15) (by omega) ⟨hD, fun _ _ => rfl, fun k _ hk => h9 k hk⟩ ?_ ?_
  · rintro n ⟨b8, b9, b14, b15⟩ ⟨h1, h2, h3⟩
    refine pk_le 4 4 (fun _ => ?_) (fun z => absurd z (by omega))
    exact tk_fk109 hp hc hpc hM hz hQ hS hn (fun g1 g2 g3 g4 b10 b16 b17 b18 b19 b20 b21 q1 m1 m2 => H g1 g2 g3 g4 b8 b9 b10 b14 b15 b16 b17 b18 b19 b20 b21 h1 h2 q1 m1 m2)
  · rintro n i ⟨b8, b9, b14, b15⟩ hi ⟨h1, h2, h3⟩ hw
    have h1' : tk_D b9 a11 a12 b14 b15 := h1
    replace h2 : ∀ x, x < 4 * c ∨ 4 * c + 4 ≤ x → b9 x = a9 x := h2
    replace h3 : ∀ k, i ≤ k → k < 4 → b9 (4 * c + k) = 0 := h3
    have h3i : b9 (4 * c + i) = 0 := h3 i (Nat.le_refl _) hi
    obtain ⟨m, hm, em⟩ := h1'.1 (4 * p + i) (by omega)
    refine pk_le 4 i (fun z => absurd z (by omega)) (fun _ => ⟨pk_in (4 * p + i) 24 (by omega) (tk_i4 p i), tk_st (4 * c + i) _ (tk_i4 c i) (by omega) rfl ⟨pk_in (4 * p + i) 24 (by omega) (tk_i4 p i), tk_st (4 * c + i) (nI m) (tk_i4 c i) (by omega) (by show vp_nar .byte (b9 ((4 : Int32) * nI p + nI i).toNatClampNeg) = nI m; rw [tk_i4, tk_at em, tk_nar (by omega)]) ⟨pk_in (4 * c + i) 24 (by omega) (tk_i4 c i), ?_⟩⟩⟩)
    rw [tk_i4 c i, nI_clamp (show 4 * c + i < 2 ^ 31 by omega), pk_us]
    have hun : ∀ v x, x < 4 * c ∨ 4 * c + 4 ≤ x → upd b9 (4 * c + i) v x = a9 x := fun v x hx => by
      rw [pk_un (by omega)]
      exact h2 x hx
    have hge : ∀ v k, i + 1 ≤ k → k < 4 → upd b9 (4 * c + i) v (4 * c + k) = 0 := fun v k hk hk' => by
      rw [pk_un (by omega)]
      exact h3 k (by omega) hk'
    by_cases m0 : m = 0
    · subst m0
      refine tk_count0 (nm_r (nI_1 i) (hw (_, upd b9 (4 * c + i) (nI 0), b14, b15) ⟨?_, hun _, hge _⟩))
      show tk_D (upd b9 (4 * c + i) (nI 0)) a11 a12 b14 b15
      rw [nI_0, tk_u0 h3i]
      exact h1'
    · obtain ⟨k, hk, hnk⟩ := tk_end7 hm m0
      rcases hnk with q | q
      · subst q
        exact tk_countR hk (nm_r (nI_1 i) (hw (_, upd b9 (4 * c + i) (nI (1 + 2 * k)), _, b15) ⟨tk_D_opR h1' (by omega) hk h3i, hun _, hge _⟩))
      · subst q
        exact tk_countW hk (nm_r (nI_1 i) (hw (_, upd b9 (4 * c + i) (nI (2 + 2 * k)), b14, _) ⟨tk_D_opW h1' (by omega) hk h3i, hun _, hge _⟩))
theorem tk_fork {post : Int32 → St1 → Prop} {e q p : Nat} (h : tk_I e q p (f1, f2, f3, f4, f5, f6, f7, a1, a2, a3, a4, a5, a6, a7, a8, a9, a10, a11, a12, a13, a14, a15, a16, a17, a18, a19, a20, a21, a22)) (hp : p < 6) (h1 : a5 p = 1) (H0 : post (-2) (f1, f2, f3, f4, f5, f6, f7, a1, a2, a3, a4, a5, a6, a7, a8, a9, a10, a11, a12, a13, a14, a15, a16, a17, a18, a19, a20, a21, a22)) (H : ∀ c u, c < 6 → tk_I e q p u → post (nI c) u) : wpX_fork post (f1, f2, f3, f4, f5, f6, f7, a1, a2, a3, a4, a5, a6, a7, a8, a9, a10, a11, a12, a13, a14, a15, a16, a17, a18, a19, a20, a21, a22) (nI p) := by
  have h' := h
  obtain ⟨hC, hP, hQ, hD, hM, hL, h5, h6⟩ := h
  refine tk_freeP (fun _ => br_f (by decide) H0) (fun c hc h0 _ => br_t (nI_pos' (by omega)) (tk_st c 1 rfl hc rfl (tk_st c (nI p) rfl hc (tk_b8 p (by omega)) ⟨pk_in p 6 hp, tk_st c (a6 p) rfl hc (by rw [nI_clamp (by omega)]) ?_⟩)))
  have hpc : p ≠ c := fun e => by
    rw [e, h0] at h1
    exact absurd h1 (by decide)
  have hna : ¬ tk_al a5 c := fun ha => tk_al0 ha h0
  refine tk_fk41 hp hc hpc hD (fun k hk => (hL c hc hna k hk).1) hM (fun k hk => (hL c hc hna k hk).2) hQ (fun x hx => hx.1) (fun hs => hna (Or.inl hs.2.1))
    (fun g1 g2 g3 g4 b8 b9 b10 b14 b15 b16 b17 b18 b19 b20 b21 d1 d2 q1 m1 m2 => H c _ hc ⟨hC, tk_P_new hP h0 (Or.inr ⟨p, hp, hpc, Or.inl h1, rfl⟩), tk_Q_mono q1 (fun y hy => ?_), d1, m1, fun x hx hn k hk => ?_, h5, h6⟩)
  · rcases hy with z | z
    · refine ⟨z.1, ?_, z.2.2⟩
      rw [pk_un (fun e => hna (Or.inl (by rw [← e]; exact z.2.1)))]
      exact z.2.1
    · rw [z]
      exact ⟨hc, pk_us, fun e => hpc e.symm⟩
  · have hxc : x ≠ c := fun e => hn (by rw [e]; exact Or.inl pk_us)
    have hn' : ¬ tk_al a5 x := fun ha => hn (by
      unfold tk_al
      rw [pk_un hxc]
      exact ha)
    have hh := hL x hx hn' k hk
    rw [d2 _ (by omega)]
    exact ⟨hh.1, m2 _ (by omega) (by omega) hh.2⟩
end
end
section
section
variable {f1 f2 f3 f4 : Int32} {f5 : Int64} {f6 f7 : Int32} {a1 a2 a3 a4 a5 a6 a7 a8 a9 a10 a11 a12 a13 a14 a15 a16 a17 a18 a19 a20 a21 a22 : Nat → Int32}
/-! what a process asks of the kernel -/
theorem tk_I_8 {e q r : Nat} {b8 : Nat → Int32} (h : tk_I e q r (f1, f2, f3, f4, f5, f6, f7, a1, a2, a3, a4, a5, a6, a7, a8, a9, a10, a11, a12, a13, a14, a15, a16, a17, a18, a19, a20, a21, a22)) : tk_I e q r (f1, f2, f3, f4, f5, f6, f7, a1, a2, a3, a4, a5, a6, a7, b8, a9, a10, a11, a12, a13, a14, a15, a16, a17, a18, a19, a20, a21, a22) := by
  obtain ⟨hC, hP, hQ, hD, hM, hL, h5, h6⟩ := h
  exact ⟨hC, hP, hQ, hD, hM, hL, h5, h6⟩
theorem tk_isAlive {post : Int32 → Prop} {v : Int32} (H0 : post 0) (H : ∀ c, c < 6 → v = nI c → tk_al a5 c → post 1) : wpX_isAlive post (f1, f2, f3, f4, f5, f6, f7, a1, a2, a3, a4, a5, a6, a7, a8, a9, a10, a11, a12, a13, a14, a15, a16, a17, a18, a19, a20, a21, a22) v := by
  refine br_c (fun _ => br_t rfl H0) (fun h0 => br_c (fun _ => br_t rfl H0) (fun h6 => br_f (by decide) ?_))
  rcases pk_ix v (n := 6) (by omega) with z | z | ⟨c, hc, e⟩
  · exact absurd z h0
  · exact absurd z h6
  · subst e
    exact ⟨pk_in c 6 hc, tk_ifr c (fun z => H c hc rfl (Or.inl z)) (fun _ => ⟨pk_in c 6 hc, tk_ifr c (fun z => H c hc rfl (Or.inr z)) (fun _ => H0)⟩)⟩
/-- a register is stored -/
theorem tk_rg {post : St1 → Prop} {e q r x : Nat} {w : Int32} (h : tk_I e q r (f1, f2, f3, f4, f5, f6, f7, a1, a2, a3, a4, a5, a6, a7, a8, a9, a10, a11, a12, a13, a14, a15, a16, a17, a18, a19, a20, a21, a22)) (hx : x < 24) (H : ∀ u, tk_I e q r u → post u) : vp_in (nI x) 24 ∧ ∀ b, b = upd a8 (nI x).toNatClampNeg w → post (f1, f2, f3, f4, f5, f6, f7, a1, a2, a3, a4, a5, a6, a7, b, a9, a10, a11, a12, a13, a14, a15, a16, a17, a18, a19, a20, a21, a22) := by
  refine ⟨pk_in x 24 hx, fun b _ => H _ (tk_I_8 h)⟩
theorem tk_ask13 {post : St1 → Prop} {e q p a : Nat} {v : Int32} (h : tk_I e q p (f1, f2, f3, f4, f5, f6, f7, a1, a2, a3, a4, a5, a6, a7, a8, a9, a10, a11, a12, a13, a14, a15, a16, a17, a18, a19, a20, a21, a22)) (hp : p < 6) (ha : a < 4) (h1 : a5 p = 1) (H : ∀ u, tk_I e q p u → post u) : wpX_askKernel post (f1, f2, f3, f4, f5, f6, f7, a1, a2, a3, a4, a5, a6, a7, a8, a9, a10, a11, a12, a13, a14, a15, a16, a17, a18, a19, a20, a21, a22) (nI p) 13 (nI (4 * p + a)) v := by
  refine br_t rfl (tk_fork h hp h1 (br_t (by decide) (tk_rg h (by omega) H)) ?_)
  rintro c ⟨g1, g2, g3, g4, g5, g6, g7, b1, b2, b3, b4, b5, b6, b7, b8, b9, b10, b11, b12, b13, b14, b15, b16, b17, b18, b19, b20, b21, b22⟩ hc hI
  refine br_f (nI_pos (by omega)) (tk_st (4 * c + a) (-1) (tk_fk p c a) (by omega) rfl ?_)
  exact tk_rg (tk_I_8 hI) (by omega) H
theorem tk_ask16 {post : St1 → Prop} {e q p a : Nat} {v : Int32} (h : tk_I e q p (f1, f2, f3, f4, f5, f6, f7, a1, a2, a3, a4, a5, a6, a7, a8, a9, a10, a11, a12, a13, a14, a15, a16, a17, a18, a19, a20, a21, a22)) (hp : p < 6) (ha : a < 4) (H : ∀ u, tk_I e q p u → post u) : wpX_askKernel post (f1, f2, f3, f4, f5, f6, f7, a1, a2, a3, a4, a5, a6, a7, a8, a9, a10, a11, a12, a13, a14, a15, a16, a17, a18, a19, a20, a21, a22) (nI p) 16 (nI (4 * p + a)) v := by
  obtain ⟨hC, hP, hQ, hD, hM, hL, h5, h6⟩ := h
  refine br_f (by decide) (br_t rfl (tk_endAt hp (tk_readPipe (e := 0) (by omega) hD (fun v b11 b12 d => ?_)) (fun d hd _ => ?_)))
  · exact tk_rg (e := e) (q := q) (r := p) ⟨hC, hP, hQ, d, hM, hL, h5, h6⟩ (by omega) H
  · obtain ⟨n, hn, en⟩ := hD.1 (4 * p + d) (by omega)
    rw [en]
    refine tk_readPipe hn hD (fun v b11 b12 d => ?_)
    exact tk_rg (e := e) (q := q) (r := p) ⟨hC, hP, hQ, d, hM, hL, h5, h6⟩ (by omega) H
theorem tk_ask18 {post : St1 → Prop} {e q p a : Nat} {v : Int32} (h : tk_I e q p (f1, f2, f3, f4, f5, f6, f7, a1, a2, a3, a4, a5, a6, a7, a8, a9, a10, a11, a12, a13, a14, a15, a16, a17, a18, a19, a20, a21, a22)) (hp : p < 6) (ha : a < 4) (H : ∀ u, tk_I e q p u → post u) : wpX_askKernel post (f1, f2, f3, f4, f5, f6, f7, a1, a2, a3, a4, a5, a6, a7, a8, a9, a10, a11, a12, a13, a14, a15, a16, a17, a18, a19, a20, a21, a22) (nI p) 18 (nI (4 * p + a)) v := by
  refine br_f (by decide) (br_f (by decide) (br_t rfl (tk_endAt hp (br_t rfl (tk_rg h (by omega) H)) (fun d hd ev => br_c (fun _ => tk_rg h (by omega) H) (fun _ => ?_)))))
  obtain ⟨hC, hP, hQ, hD, hM, hL, h5, h6⟩ := h
  subst ev
  refine tk_closeEnd hp hd hD (fun b12 b14 b15 d' => ?_)
  refine tk_rg (e := e) (q := q) (r := p) ⟨hC, hP, hQ, d', hM, fun c hc hn k hk => ?_, h5, h6⟩ (by omega) H
  by_cases ex : 4 * c + k = 4 * p + d
  · exact ⟨by rw [ex, pk_us], (hL c hc hn k hk).2⟩
  · rw [pk_un ex]
    exact hL c hc hn k hk
theorem tk_ask19 {post : St1 → Prop} {e q p a : Nat} {v : Int32} (h : tk_I e q p (f1, f2, f3, f4, f5, f6, f7, a1, a2, a3, a4, a5, a6, a7, a8, a9, a10, a11, a12, a13, a14, a15, a16, a17, a18, a19, a20, a21, a22)) (hp : p < 6) (ha : a < 4) (h1 : a5 p = 1) (H : ∀ u, tk_I e q p u → post u) : wpX_askKernel post (f1, f2, f3, f4, f5, f6, f7, a1, a2, a3, a4, a5, a6, a7, a8, a9, a10, a11, a12, a13, a14, a15, a16, a17, a18, a19, a20, a21, a22) (nI p) 19 (nI (4 * p + a)) v := by
  have h' := h
  obtain ⟨hC, hP, hQ, hD, hM, hL, h5, h6⟩ := h
  have hl : ∀ d (b9 : Nat → Int32), d < 4 → (∀ x, x ≠ 4 * p + d → b9 x = a9 x) → tk_L a5 b9 a16 := fun d b9 hd hb c hc hn k hk => by
    have hcp : c ≠ p := fun e => hn (by rw [e]; exact Or.inl h1)
    rw [hb _ (by omega)]
    exact hL c hc hn k hk
  refine br_f (by decide) (br_f (by decide) (br_f (by decide) (br_t rfl (tk_endAt hp (tk_copyEnd (e := 0) hp (by omega) hD (tk_rg h' (by omega) H) (fun d b9 b14 b15 hd d' hb => ?_)) (fun d hd _ => ?_)))))
  · exact tk_rg (e := e) (q := q) (r := p) ⟨hC, hP, hQ, d', hM, hl d b9 hd hb, h5, h6⟩ (by omega) H
  · obtain ⟨n, hn, en⟩ := hD.1 (4 * p + d) (by omega)
    rw [en]
    refine tk_copyEnd hp hn hD (tk_rg h' (by omega) H) (fun d b9 b14 b15 hd d' hb => ?_)
    exact tk_rg (e := e) (q := q) (r := p) ⟨hC, hP, hQ, d', hM, hl d b9 hd hb, h5, h6⟩ (by omega) H
theorem tk_ask24 {post : St1 → Prop} {e q p a : Nat} {v : Int32} (h : tk_I e q p (f1, f2, f3, f4, f5, f6, f7, a1, a2, a3, a4, a5, a6, a7, a8, a9, a10, a11, a12, a13, a14, a15, a16, a17, a18, a19, a20, a21, a22)) (hp : p < 6) (ha : a < 4) (H : ∀ u, tk_I e q p u → post u) : wpX_askKernel post (f1, f2, f3, f4, f5, f6, f7, a1, a2, a3, a4, a5, a6, a7, a8, a9, a10, a11, a12, a13, a14, a15, a16, a17, a18, a19, a20, a21, a22) (nI p) 24 (nI (4 * p + a)) v := by
  refine br_f (by decide) (br_f (by decide) (br_f (by decide) (br_f (by decide) (br_t rfl (br_c (fun _ => tk_rg h (by omega) H) (fun _ => tk_isAlive (br_t rfl (tk_rg h (by omega) H)) (fun c hc ev hal => br_f (by decide) ?_)))))))
  subst ev
  refine tk_end h hc hal (fun g1 g2 b5 b7 b9 b10 b12 b14 b15 b16 b17 b20 hI _ _ _ => ?_)
  exact tk_rg hI (by omega) H
theorem tk_ask {post : St1 → Prop} {e q p a : Nat} {o v : Int32} (h : tk_I e q p (f1, f2, f3, f4, f5, f6, f7, a1, a2, a3, a4, a5, a6, a7, a8, a9, a10, a11, a12, a13, a14, a15, a16, a17, a18, a19, a20, a21, a22)) (hp : p < 6) (ha : a < 4) (h1 : a5 p = 1) (H : ∀ u, tk_I e q p u → post u) : wpX_askKernel post (f1, f2, f3, f4, f5, f6, f7, a1, a2, a3, a4, a5, a6, a7, a8, a9, a10, a11, a12, a13, a14, a15, a16, a17, a18, a19, a20, a21, a22) (nI p) o (nI (4 * p + a)) v := by
  by_cases o13 : o = 13
  · subst o13
    exact tk_ask13 h hp ha h1 H
  by_cases o16 : o = 16
  · subst o16
    exact tk_ask16 h hp ha H
  by_cases o18 : o = 18
  · subst o18
    exact tk_ask18 h hp ha H
  by_cases o19 : o = 19
  · subst o19
    exact tk_ask19 h hp ha h1 H
  by_cases o24 : o = 24
  · subst o24
    exact tk_ask24 h hp ha H
  exact br_f o13 (br_f o16 (br_f o18 (br_f o19 (br_f o24 (br_c (fun _ => tk_rg h (by omega) H) (fun _ => tk_ld p rfl hp rfl (tk_rg h (by omega) H)))))))
end
end
section
section
variable {f1 f2 f3 f4 : Int32} {f5 : Int64} {f6 f7 : Int32} {a1 a2 a3 a4 a5 a6 a7 a8 a9 a10 a11 a12 a13 a14 a15 a16 a17 a18 a19 a20 a21 a22 : Nat → Int32}
theorem tk_touch {post : St1 → Prop} {e q p a : Nat} {o v : Int32} (h : tk_I e q p (f1, f2, f3, f4, f5, f6, f7, a1, a2, a3, a4, a5, a6, a7, a8, a9, a10, a11, a12, a13, a14, a15, a16, a17, a18, a19, a20, a21, a22)) (hp : p < 6) (ha : a < 4) (h1 : a5 p = 1) (H : ∀ u, tk_I e q p u → post u) : wpX_touch post (f1, f2, f3, f4, f5, f6, f7, a1, a2, a3, a4, a5, a6, a7, a8, a9, a10, a11, a12, a13, a14, a15, a16, a17, a18, a19, a20, a21, a22) (nI p) o (nI (4 * p + a)) v := by
  have h12 : wX_touch_12 post (nI p) f1 f2 f3 f4 f5 f6 f7 a1 a2 a3 a4 a5 a6 a7 a8 a9 a10 a11 a12 a13 a14 a15 a16 a17 a18 a19 a20 a21 a22 := tk_end h hp (Or.inl h1) (fun g1 g2 b5 b7 b9 b10 b12 b14 b15 b16 b17 b20 hI _ _ _ => H _ hI)
  obtain ⟨hC, hP, hQ, hD, hM, hL, h5, h6⟩ := h
  refine br_c (fun _ => h12) (fun h0 => br_c (fun h31 => ?_) (fun _ => h12))
  obtain ⟨i, hi, ei⟩ := nI_of2 (M := 31) (n := 31) (by decide) h0 h31
  subst ei
  refine br_c (fun _ => ?_) (fun _ => ⟨pk_in (4 * p + a) 24 (by omega), ?_⟩)
  · refine tj_readWord hp (by omega) (tk_N_of hM) (fun h b16 b17 b18 b19 b20 b21 hN hz => ?_)
    refine tk_st (4 * p + a) _ rfl (by omega) rfl (H _ ⟨hC, hP, hQ, hD, hN.1, fun c hc hn k hk => ⟨(hL c hc hn k hk).1, hz _ (by omega) (hL c hc hn k hk).2⟩, h5, h6⟩)
  · refine tk_writeWord hp (by omega) hM (fun h g4 b16 b17 b18 b19 b20 b21 hM' hz => H _ ⟨hC, hP, hQ, hD, hM', fun c hc hn k hk => ⟨(hL c hc hn k hk).1, hz _ (by omega) ?_ (hL c hc hn k hk).2⟩, h5, h6⟩)
    have hcp : c ≠ p := fun e => hn (by rw [e]; exact Or.inl h1)
    omega
theorem tk_calc {post : St1 → Prop} {x y : Nat} {o n : Int32} (hx : x < 24) (hy : y < 24) (H : ∀ b8, post (f1, f2, f3, f4, f5, f6, f7, a1, a2, a3, a4, a5, a6, a7, b8, a9, a10, a11, a12, a13, a14, a15, a16, a17, a18, a19, a20, a21, a22)) : wpX_calculate post (f1, f2, f3, f4, f5, f6, f7, a1, a2, a3, a4, a5, a6, a7, a8, a9, a10, a11, a12, a13, a14, a15, a16, a17, a18, a19, a20, a21, a22) o (nI x) (nI y) n := by
  have st : ∀ w : Int32, vp_in (nI x) 24 ∧ ∀ b, b = upd a8 (nI x).toNatClampNeg w → post (f1, f2, f3, f4, f5, f6, f7, a1, a2, a3, a4, a5, a6, a7, b, a9, a10, a11, a12, a13, a14, a15, a16, a17, a18, a19, a20, a21, a22) := fun w => tk_st x w rfl hx rfl (H _)
  exact tk_ld x rfl hx rfl (tk_ld y rfl hy rfl (br_c (fun _ => st _) (fun _ => br_c (fun _ => st _) (fun _ => br_c (fun _ => st _) (fun _ => br_c (fun _ => st _) (fun _ => br_c (fun _ => st _) (fun _ => br_c (fun _ => st _) (fun _ => br_c (fun _ => st _) (fun _ => st _)))))))))
theorem tk_print {post : St1 → Prop} {q : Nat} {v : Int32} (h6 : f6 = nI q) (hq : q < 2 ^ 30) (H : ∀ b22, post (f1, f2, f3, f4, f5, nI (q + 1), f7, a1, a2, a3, a4, a5, a6, a7, a8, a9, a10, a11, a12, a13, a14, a15, a16, a17, a18, a19, a20, a21, b22)) : wpX_print post (f1, f2, f3, f4, f5, f6, f7, a1, a2, a3, a4, a5, a6, a7, a8, a9, a10, a11, a12, a13, a14, a15, a16, a17, a18, a19, a20, a21, a22) v := by
  subst h6
  exact pk_le 32 q (fun _ => nm_r (nI_1 q) (H _)) (fun z => tk_st q v rfl (by omega) rfl (nm_r (nI_1 q) (H _)))
theorem tk_execute {post : St1 → Prop} {e q p i : Nat} (h : tk_I e q p (f1, f2, f3, f4, f5, f6, f7, a1, a2, a3, a4, a5, a6, a7, a8, a9, a10, a11, a12, a13, a14, a15, a16, a17, a18, a19, a20, a21, a22)) (hp : p < 6) (hi : i < 64) (h1 : a5 p = 1) (hq : q < 2 ^ 30) (hw : a1 i = 17 → tk_room a3 a8 a9 a12 p i)
    (H : ∀ q' u, q' ≤ q + 1 → tk_I e q' p u → post u) : wpX_execute post (f1, f2, f3, f4, f5, f6, f7, a1, a2, a3, a4, a5, a6, a7, a8, a9, a10, a11, a12, a13, a14, a15, a16, a17, a18, a19, a20, a21, a22) (nI p) (nI i) := by
  obtain ⟨hC, hP, hQ, hD, hM, hL, h5, h6⟩ := h
  have hP' : tk_P a5 (upd a6 p (nI (i + 1))) a7 := tk_P_6 hP (by rw [h1]; decide)
  have h' : tk_I e q p (f1, f2, f3, f4, f5, f6, f7, a1, a2, a3, a4, a5, upd a6 p (nI (i + 1)), a7, a8, a9, a10, a11, a12, a13, a14, a15, a16, a17, a18, a19, a20, a21, a22) := ⟨hC, hP', hQ, hD, hM, hL, h5, h6⟩
  have hP6 : ∀ v, tk_P a5 (upd (upd a6 p (nI (i + 1))) p v) a7 := fun v => tk_P_6 hP' (by rw [h1]; decide)
  have H1 : ∀ u, tk_I e q p u → post u := fun u hu => H q u (by omega) hu
  obtain ⟨⟨a, ha, ea⟩, ⟨b, hb, eb⟩⟩ := hC i hi
  refine tk_ld i rfl hi rfl ⟨pk_in i 64 hi, nm_r (e' := nI (4 * p + a)) (by rw [tk_at ea, tk_i4]) ⟨pk_in i 64 hi, nm_r (e' := nI (4 * p + b)) (by rw [tk_at eb, tk_i4]) (tk_ld i rfl hi rfl (tk_st p (nI (i + 1)) rfl hp (nI_1 i) ?_))⟩⟩
  have h99 : ∀ n : Int32, wX_execute_99 post (nI p) (a1 i) (nI (4 * p + a)) (nI (4 * p + b)) n f1 f2 f3 f4 f5 f6 f7 a1 a2 a3 a4 a5 (upd a6 p (nI (i + 1))) a7 a8 a9 a10 a11 a12 a13 a14 a15 a16 a17 a18 a19 a20 a21 a22 := fun n => ⟨pk_in (4 * p + b) 24 (by omega), tk_touch h' hp ha h1 (by rintro ⟨g1, g2, g3, g4, g5, g6, g7, c1, c2, c3, c4, c5, c6, c7, c8, c9, c10, c11, c12, c13, c14, c15, c16, c17, c18, c19, c20, c21, c22⟩ hI; exact H1 _ hI)⟩
  have h162 : ∀ x y z : Int32, wX_execute_162 post (nI p) x y z f1 f2 f3 f4 f5 f6 f7 a1 a2 a3 a4 a5 (upd a6 p (nI (i + 1))) a7 a8 a9 a10 a11 a12 a13 a14 a15 a16 a17 a18 a19 a20 a21 a22 := fun x y z => br_c (fun _ => tk_st p _ rfl hp rfl (H1 _ ⟨hC, hP6 _, hQ, hD, hM, hL, h5, h6⟩)) (fun _ => H1 _ h')
  have h141 : ∀ x y : Int32, wX_execute_141 post (nI p) (a1 i) x y f1 f2 f3 f4 f5 f6 f7 a1 a2 a3 a4 a5 (upd a6 p (nI (i + 1))) a7 a8 a9 a10 a11 a12 a13 a14 a15 a16 a17 a18 a19 a20 a21 a22 := fun x y => br_c (fun _ => tk_st p _ rfl hp rfl (H1 _ ⟨hC, hP6 _, hQ, hD, hM, hL, h5, h6⟩)) (fun _ => br_c (fun _ => h162 _ _ _) (fun _ => h162 _ _ _))
  refine br_c (fun _ => ⟨pk_in (4 * p + a) 24 (by omega), ?_⟩) (fun _ => br_c (fun _ => ?_) (fun _ => ?_))
  · exact tk_end h' hp (Or.inl h1) (fun g1 g2 b5 b7 b9 b10 b12 b14 b15 b16 b17 b20 hI _ _ _ => H1 _ hI)
  · refine br_c (fun _ => h99 _) (fun _ => br_c (fun _ => h99 _) (fun _ => br_c (fun _ => ?_) (fun _ => ⟨pk_in (4 * p + a) 24 (by omega), br_c (fun _ => h141 _ _) (fun _ => h141 _ _)⟩)))
    refine br_c (fun e17 => ⟨pk_in (4 * p + b) 24 (by omega), ?_⟩) (fun _ => br_c (fun _ => ?_) (fun _ => br_c (fun _ => ?_) (fun _ => br_c (fun _ => ⟨pk_in (4 * p + a) 24 (by omega), ?_⟩) (fun _ => br_c (fun _ => H1 _ h') (fun _ => ⟨pk_in (4 * p + b) 24 (by omega), ?_⟩)))))
    · rw [nI_clamp (by omega), tk_s4]
      have wr : ∀ n, n < 7 → (∀ k, k < 3 → n = 2 + 2 * k → 0 < tk_cnt a9 (nI (1 + 2 * k)) 24 → a12 k ≠ nI 4) → wpX_writePipe (fun r_396 u => match u with | (g1, g2, g3, g4, g5, g6, g7, c1, c2, c3, c4, c5, c6, c7, c8, c9, c10, c11, c12, c13, c14, c15, c16, c17, c18, c19, c20, c21, c22) => (((r_396 = 0 → (wpX_end (fun u => match u with | (d1, d2, d3, d4, d5, d6, d7, k1, k2, k3, k4, k5, k6, k7, k8, k9, k10, k11, k12, k13, k14, k15, k16, k17, k18, k19, k20, k21, k22) => (post (d1, d2, d3, d4, d5, d6, d7, k1, k2, k3, k4, k5, k6, k7, k8, k9, k10, k11, k12, k13, k14, k15, k16, k17, k18, k19, k20, k21, k22))) (g1, g2, g3, g4, g5, g6, g7, c1, c2, c3, c4, c5, c6, c7, c8, c9, c10, c11, c12, c13, c14, c15, c16, c17, c18, c19, c20, c21, c22) (nI p) (-2))) ∧ (¬ r_396 = 0 → (post (g1, g2, g3, g4, g5, g6, g7, c1, c2, c3, c4, c5, c6, c7, c8, c9, c10, c11, c12, c13, c14, c15, c16, c17, c18, c19, c20, c21, c22)))))) (f1, f2, f3, f4, f5, f6, f7, a1, a2, a3, a4, a5, upd a6 p (nI (i + 1)), a7, a8, a9, a10, a11, a12, a13, a14, a15, a16, a17, a18, a19, a20, a21, a22) (nI p) (nI n) (nI a) := fun n hn hr => by
        refine tk_writePipe hp hn ha hD hr (br_t rfl ?_) (fun b8 b12 b13 d' => br_f (by decide) (H1 _ ⟨hC, hP', hQ, d', hM, hL, h5, h6⟩))
        exact tk_end h' hp (Or.inl h1) (fun g1 g2 b5 b7 b9 b10 b12 b14 b15 b16 b17 b20 hI _ _ _ => H1 _ hI)
      refine tk_endAt hp (wr 0 (by omega) (fun k _ z => absurd z (by omega))) (fun d hd ed => ?_)
      obtain ⟨n, hn, en⟩ := hD.1 (4 * p + d) (by omega)
      rw [en]
      exact wr n hn (fun k hk ek hr => hw e17 b d k hb hd hk eb ed (by rw [en, ek]) hr)
    · exact tk_takeChild h' (by omega) (by omega) (fun b5 b8 hI => H1 _ hI)
    · rw [tk_s4, tk_s4]
      refine tk_makePipe hp ha hb hD (fun b8 b9 b11 b12 b14 b15 d' hun => H1 _ ⟨hC, hP', hQ, d', hM, fun c hc hn k hk => ?_, h5, h6⟩)
      have hcp : c ≠ p := fun e => hn (by rw [e]; exact Or.inl h1)
      rw [hun _ (by omega)]
      exact hL c hc hn k hk
    · exact tk_print h6 hq (fun b22 => H (q + 1) _ (Nat.le_refl _) ⟨hC, hP', hQ, hD, hM, hL, h5, rfl⟩)
    · exact tk_ask h' hp ha h1 (by rintro ⟨g1, g2, g3, g4, g5, g6, g7, c1, c2, c3, c4, c5, c6, c7, c8, c9, c10, c11, c12, c13, c14, c15, c16, c17, c18, c19, c20, c21, c22⟩ hI; exact H1 _ hI)
  · exact tk_calc (by omega) (by omega) (fun b8 => H1 _ (tk_I_8 h'))
end
end
section
/-- no process is ready, and those that wait go on waiting -/
def tk_idle (u : St1) : Prop := match u with
  | (f1, f2, f3, f4, f5, f6, f7, a1, a2, a3, a4, a5, a6, a7, a8, a9, a10, a11, a12, a13, a14, a15, a16, a17, a18, a19, a20, a21, a22) => f1 = -1 ∧ ∀ p, p < 6 → a5 p = 2 → ∃ v : Int32, v ≠ 0 ∧ ∀ (post : Int32 → Prop), post v → wpX_wouldWait post (f1, f2, f3, f4, f5, f6, f7, a1, a2, a3, a4, a5, a6, a7, a8, a9, a10, a11, a12, a13, a14, a15, a16, a17, a18, a19, a20, a21, a22) (nI p)
section
variable {f1 f2 f3 f4 : Int32} {f5 : Int64} {f6 f7 : Int32} {a1 a2 a3 a4 a5 a6 a7 a8 a9 a10 a11 a12 a13 a14 a15 a16 a17 a18 a19 a20 a21 a22 : Nat → Int32}
theorem tk_work {post : St1 → Prop} {e q p : Nat} (h : tk_I e q p (f1, f2, f3, f4, f5, f6, f7, a1, a2, a3, a4, a5, a6, a7, a8, a9, a10, a11, a12, a13, a14, a15, a16, a17, a18, a19, a20, a21, a22)) (hp : p < 6) (h1 : a5 p = 1) (hq : q ≤ e) (he : e + 3 < 2 ^ 30)
    (H : ∀ e' q' u, e ≤ e' → e' ≤ e + 3 → q' ≤ e' → tk_I e' q' p u → post u) : wpX_work post (f1, f2, f3, f4, f5, f6, f7, a1, a2, a3, a4, a5, a6, a7, a8, a9, a10, a11, a12, a13, a14, a15, a16, a17, a18, a19, a20, a21, a22) (nI p) := by
  have key : ∀ m d, d + m = 3 → ∀ (x : Int32) (e' q' : Nat) (g1 g2 g3 g4 : Int32) (g5 : Int64) (g6 g7 : Int32) (b1 b2 b3 b4 b5 b6 b7 b8 b9 b10 b11 b12 b13 b14 b15 b16 b17 b18 b19 b20 b21 b22 : Nat → Int32), e ≤ e' → e' ≤ e + d → q' ≤ e' → tk_I e' q' p (g1, g2, g3, g4, g5, g6, g7, b1, b2, b3, b4, b5, b6, b7, b8, b9, b10, b11, b12, b13, b14, b15, b16, b17, b18, b19, b20, b21, b22) → (x ≠ 0 → b5 p = 1) → wX_work_4 post (nI p) (m + 1) x (nI d) g1 g2 g3 g4 g5 g6 g7 b1 b2 b3 b4 b5 b6 b7 b8 b9 b10 b11 b12 b13 b14 b15 b16 b17 b18 b19 b20 b21 b22 := by
    intro m
    induction m with
    | zero =>
      intro d hd x e' q' g1 g2 g3 g4 g5 g6 g7 b1 b2 b3 b4 b5 b6 b7 b8 b9 b10 b11 b12 b13 b14 b15 b16 b17 b18 b19 b20 b21 b22 k1 k2 k3 hI _
      exact pk_le 3 d (fun _ => H e' q' _ k1 (by omega) k3 hI) (fun z => absurd z (by omega))
    | succ m ih =>
      intro d hd x e' q' g1 g2 g3 g4 g5 g6 g7 b1 b2 b3 b4 b5 b6 b7 b8 b9 b10 b11 b12 b13 b14 b15 b16 b17 b18 b19 b20 b21 b22 k1 k2 k3 hI hx
      have hI' := hI
      obtain ⟨hC, hP, hQ, hD, hM, hL, h5, h6⟩ := hI
      refine pk_le 3 d (fun z => absurd z (by omega)) (fun _ => br_c (fun _ => H e' q' _ k1 (by omega) k3 hI') (fun x0 => tk_ld p rfl hp rfl ?_))
      have hb1 : b5 p = 1 := hx x0
      have h33 : wX_work_33 post (nI p) g1 g2 g3 g4 g5 g6 g7 b1 b2 b3 b4 b5 b6 b7 b8 b9 b10 b11 b12 b13 b14 b15 b16 b17 b18 b19 b20 b21 b22 := by
        refine nm_r (e' := lN (e' + 1)) (by rw [h5, lN_1]) ?_
        exact tk_end (e := e' + 1) (q := q') (r := p) ⟨hC, hP, hQ, hD, hM, hL, rfl, h6⟩ hp (Or.inl hb1) (fun c1 c2 c5 c7 c9 c10 c12 c14 c15 c16 c17 c20 hJ _ _ _ => H (e' + 1) q' _ (by omega) (by omega) (by omega) hJ)
      refine br_c (fun _ => h33) (fun i0 => br_c (fun i63 => ?_) (fun _ => h33))
      obtain ⟨i, hi, ei⟩ := nI_of2 (M := 63) (n := 63) (by decide) i0 i63
      obtain ⟨v, hv, hroom⟩ := @tk_would g1 g2 g3 g4 g5 g6 g7 b1 b2 b3 b4 b5 b6 b7 b8 b9 b10 b11 b12 b13 b14 b15 b16 b17 b18 b19 b20 b21 b22 p i hC hD hp (by omega) ei
      refine hv _ (br_c (fun v0 => nm_r (e' := lN (e' + 1)) (by rw [h5, lN_1]) ?_) (fun _ => ?_))
      · rw [ei]
        refine tk_execute (e := e' + 1) (q := q') ⟨hC, hP, hQ, hD, hM, hL, rfl, h6⟩ hp (by omega) hb1 (by omega) (hroom v0) ?_
        rintro q'' ⟨c1, c2, c3, c4, c5, c6, c7, d1, d2, d3, d4, d5, d6, d7, d8, d9, d10, d11, d12, d13, d14, d15, d16, d17, d18, d19, d20, d21, d22⟩ hq'' hJ
        refine ⟨pk_in p 6 hp, tk_ifr p (fun y => ⟨pk_in i 64 (by omega), br_c (fun _ => nm_r (nI_1 d) ?_) (fun _ => nm_r (nI_1 d) ?_)⟩) (fun _ => nm_r (nI_1 d) ?_)⟩
        · exact ih (d + 1) (by omega) 0 (e' + 1) q'' c1 c2 c3 c4 c5 c6 c7 d1 d2 d3 d4 d5 d6 d7 d8 d9 d10 d11 d12 d13 d14 d15 d16 d17 d18 d19 d20 d21 d22 (by omega) (by omega) (by omega) hJ (fun z => absurd rfl z)
        · exact ih (d + 1) (by omega) 1 (e' + 1) q'' c1 c2 c3 c4 c5 c6 c7 d1 d2 d3 d4 d5 d6 d7 d8 d9 d10 d11 d12 d13 d14 d15 d16 d17 d18 d19 d20 d21 d22 (by omega) (by omega) (by omega) hJ (fun _ => y)
        · exact ih (d + 1) (by omega) 0 (e' + 1) q'' c1 c2 c3 c4 c5 c6 c7 d1 d2 d3 d4 d5 d6 d7 d8 d9 d10 d11 d12 d13 d14 d15 d16 d17 d18 d19 d20 d21 d22 (by omega) (by omega) (by omega) hJ (fun z => absurd rfl z)
      · refine tk_st p 2 rfl hp rfl (H e' q' _ k1 (by omega) k3 ⟨hC, tk_P_12 hP (Or.inl hb1) (Or.inr ⟨rfl, i, by omega, ei⟩), tk_Q_mono hQ (fun y hy => ⟨hy.1, ?_, hy.2.2⟩), hD, hM, tk_L_al hL (Or.inr rfl), h5, h6⟩)
        rw [pk_un hy.2.2]
        exact hy.2.1
  exact ⟨4, key 3 0 rfl 1 e q f1 f2 f3 f4 f5 f6 f7 a1 a2 a3 a4 a5 a6 a7 a8 a9 a10 a11 a12 a13 a14 a15 a16 a17 a18 a19 a20 a21 a22 (Nat.le_refl _) (Nat.le_refl _) hq h (fun _ => h1)⟩
theorem tk_turn6 {post : Int32 → St1 → Prop} {e q n : Nat} (h : tk_I e q 6 (f1, f2, f3, f4, f5, f6, f7, a1, a2, a3, a4, a5, a6, a7, a8, a9, a10, a11, a12, a13, a14, a15, a16, a17, a18, a19, a20, a21, a22)) (hq : q ≤ e) (he : e + 3 < 2 ^ 30) (H0 : f1 = -1 → post 0 (f1, f2, f3, f4, f5, f6, f7, a1, a2, a3, a4, a5, a6, a7, a8, a9, a10, a11, a12, a13, a14, a15, a16, a17, a18, a19, a20, a21, a22)) (H1 : ∀ e' q' u, e ≤ e' → e' ≤ e + 3 → q' ≤ e' → tk_I e' q' 6 u → post 1 u) :
    wX_turn_2 post (n + 1) (nI 6) f1 f2 f3 f4 f5 f6 f7 a1 a2 a3 a4 a5 a6 a7 a8 a9 a10 a11 a12 a13 a14 a15 a16 a17 a18 a19 a20 a21 a22 := by
  obtain ⟨hC, hP, hQ, hD, hM, hL, h5, h6⟩ := h
  refine pk_le 6 6 (fun _ => ?_) (fun z => absurd z (by omega))
  refine tk_dequeue hQ (fun x hx => hx.1) (fun e1 => br_f (by decide) (H0 e1)) (fun p g1 g2 _ hs hQ' => br_t (nI_pos' (by have := hs.1; omega)) ?_)
  refine tk_work (e := e) (q := q) ⟨hC, hP, tk_Q_mono hQ' (fun x hx => ⟨hx.1.1, hx.1.2.1, hx.2⟩), hD, hM, hL, h5, h6⟩ hs.1 hs.2.1 hq he ?_
  rintro e' q' ⟨c1, c2, c3, c4, c5, c6, c7, d1, d2, d3, d4, d5, d6, d7, d8, d9, d10, d11, d12, d13, d14, d15, d16, d17, d18, d19, d20, d21, d22⟩ k1 k2 k3 hI
  have hp : p < 6 := hs.1
  obtain ⟨jC, jP, jQ, jD, jM, jL, j5, j6⟩ := hI
  refine ⟨pk_in p 6 hp, tk_ifr p (fun y => ?_) (fun _ => H1 e' q' _ k1 k2 k3 ⟨jC, jP, tk_Q_mono jQ (fun x hx => ⟨hx.1, hx.2.1, by have := hx.1; omega⟩), jD, jM, jL, j5, j6⟩)⟩
  refine tk_enqueue hp jQ (fun x hx => hx.1) (fun z => z.2.2 rfl) (fun k c2 d10 hk hQ'' => H1 e' q' _ k1 k2 k3 ⟨jC, jP, tk_Q_mono hQ'' (fun x hx => ?_), jD, jM, jL, j5, j6⟩)
  rcases hx with z | z
  · exact ⟨z.1, z.2.1, by have := z.1; omega⟩
  · rw [z]
    exact ⟨hp, y, by omega⟩
/-- a process wakes up -/
theorem tk_wake {post : St1 → Prop} {e q i : Nat} (h : tk_I e q 6 (f1, f2, f3, f4, f5, f6, f7, a1, a2, a3, a4, a5, a6, a7, a8, a9, a10, a11, a12, a13, a14, a15, a16, a17, a18, a19, a20, a21, a22)) (hi : i < 6) (h2 : a5 i = 2) (H : ∀ k g2 b10, k < 6 → tk_I e q 6 (nI k, g2, f3, f4, f5, f6, f7, a1, a2, a3, a4, upd a5 i 1, a6, a7, a8, a9, b10, a11, a12, a13, a14, a15, a16, a17, a18, a19, a20, a21, a22) → post (nI k, g2, f3, f4, f5, f6, f7, a1, a2, a3, a4, upd a5 i 1, a6, a7, a8, a9, b10, a11, a12, a13, a14, a15, a16, a17, a18, a19, a20, a21, a22)) :
    wpX_enqueue post (f1, f2, f3, f4, f5, f6, f7, a1, a2, a3, a4, upd a5 i 1, a6, a7, a8, a9, a10, a11, a12, a13, a14, a15, a16, a17, a18, a19, a20, a21, a22) (nI i) := by
  obtain ⟨hC, hP, hQ, hD, hM, hL, h5, h6⟩ := h
  refine tk_enqueue hi hQ (fun x hx => hx.1) (fun z => by have y := z.2.1; rw [h2] at y; exact absurd y (by decide)) (fun k g2 b10 hk hQ' => H k g2 b10 hk ⟨hC, tk_P_12 hP (Or.inr h2) (Or.inl rfl), tk_Q_mono hQ' (fun x hx => ?_), hD, hM, tk_L_al hL (Or.inl rfl), h5, h6⟩)
  rcases hx with z | z
  · refine ⟨z.1, ?_, z.2.2⟩
    rw [pk_un (fun e => by have y := z.2.1; rw [e, h2] at y; exact absurd y (by decide))]
    exact z.2.1
  · rw [z]
    exact ⟨hi, pk_us, by omega⟩
theorem tk_turnB {post : Int32 → St1 → Prop} {e q : Nat} (hq : q ≤ e) (he : e + 3 < 2 ^ 30) (H1 : ∀ e' q' u, e ≤ e' → e' ≤ e + 3 → q' ≤ e' → tk_I e' q' 6 u → post 1 u) :
    ∀ m i, i + m = 6 → ∀ (g1 g2 g3 g4 : Int32) (g5 : Int64) (g6 g7 : Int32) (b1 b2 b3 b4 b5 b6 b7 b8 b9 b10 b11 b12 b13 b14 b15 b16 b17 b18 b19 b20 b21 b22 : Nat → Int32), tk_I e q 6 (g1, g2, g3, g4, g5, g6, g7, b1, b2, b3, b4, b5, b6, b7, b8, b9, b10, b11, b12, b13, b14, b15, b16, b17, b18, b19, b20, b21, b22) → (∃ k, k < 6 ∧ g1 = nI k) → wX_turn_2 post (m + 1) (nI i) g1 g2 g3 g4 g5 g6 g7 b1 b2 b3 b4 b5 b6 b7 b8 b9 b10 b11 b12 b13 b14 b15 b16 b17 b18 b19 b20 b21 b22 := by
  intro m
  induction m with
  | zero =>
    intro i hi g1 g2 g3 g4 g5 g6 g7 b1 b2 b3 b4 b5 b6 b7 b8 b9 b10 b11 b12 b13 b14 b15 b16 b17 b18 b19 b20 b21 b22 hI hk
    obtain ⟨k, hk, ek⟩ := hk
    have e6 : i = 6 := by omega
    subst e6
    refine tk_turn6 hI hq he (fun z => ?_) H1
    rw [ek] at z
    exact absurd z tk_m1
  | succ m ih =>
    intro i hi g1 g2 g3 g4 g5 g6 g7 b1 b2 b3 b4 b5 b6 b7 b8 b9 b10 b11 b12 b13 b14 b15 b16 b17 b18 b19 b20 b21 b22 hI hk
    have hI' := hI
    obtain ⟨hC, hP, hQ, hD, hM, hL, h5, h6⟩ := hI
    refine pk_le 6 i (fun z => absurd z (by omega)) (fun _ => ⟨pk_in i 6 (by omega), tk_ifr i (fun z => ?_) (fun _ => nm_r (nI_1 i) (ih (i + 1) (by omega) g1 g2 g3 g4 g5 g6 g7 b1 b2 b3 b4 b5 b6 b7 b8 b9 b10 b11 b12 b13 b14 b15 b16 b17 b18 b19 b20 b21 b22 hI' hk))⟩)
    obtain ⟨j, hj, ej⟩ := (hP i (by omega)).2.2.2.2 z
    obtain ⟨v, hv, _⟩ := @tk_would g1 g2 g3 g4 g5 g6 g7 b1 b2 b3 b4 b5 b6 b7 b8 b9 b10 b11 b12 b13 b14 b15 b16 b17 b18 b19 b20 b21 b22 i j hC hD (by omega) hj ej
    refine hv _ (br_c (fun _ => tk_st i 1 rfl (by omega) rfl ?_) (fun _ => nm_r (nI_1 i) (ih (i + 1) (by omega) g1 g2 g3 g4 g5 g6 g7 b1 b2 b3 b4 b5 b6 b7 b8 b9 b10 b11 b12 b13 b14 b15 b16 b17 b18 b19 b20 b21 b22 hI' hk)))
    exact tk_wake hI' (by omega) z (fun k c2 c10 hk' hJ => nm_r (nI_1 i) (ih (i + 1) (by omega) _ _ _ _ _ _ _ _ _ _ _ _ _ _ _ _ _ _ _ _ _ _ _ _ _ _ _ _ _ hJ ⟨k, hk', rfl⟩))
theorem tk_turn {post : Int32 → St1 → Prop} {e q : Nat} (h : tk_I e q 6 (f1, f2, f3, f4, f5, f6, f7, a1, a2, a3, a4, a5, a6, a7, a8, a9, a10, a11, a12, a13, a14, a15, a16, a17, a18, a19, a20, a21, a22)) (hq : q ≤ e) (he : e + 3 < 2 ^ 30) (H0 : tk_idle (f1, f2, f3, f4, f5, f6, f7, a1, a2, a3, a4, a5, a6, a7, a8, a9, a10, a11, a12, a13, a14, a15, a16, a17, a18, a19, a20, a21, a22) → post 0 (f1, f2, f3, f4, f5, f6, f7, a1, a2, a3, a4, a5, a6, a7, a8, a9, a10, a11, a12, a13, a14, a15, a16, a17, a18, a19, a20, a21, a22)) (H1 : ∀ e' q' u, e ≤ e' → e' ≤ e + 3 → q' ≤ e' → tk_I e' q' 6 u → post 1 u) : wpX_turn post (f1, f2, f3, f4, f5, f6, f7, a1, a2, a3, a4, a5, a6, a7, a8, a9, a10, a11, a12, a13, a14, a15, a16, a17, a18, a19, a20, a21, a22) := by
  have h' := h
  obtain ⟨hC, hP, hQ, hD, hM, hL, h5, h6⟩ := h
  have key : ∀ m i, i + m = 6 → (∀ p, p < i → a5 p = 2 → ∃ v : Int32, v ≠ 0 ∧ ∀ (post : Int32 → Prop), post v → wpX_wouldWait post (f1, f2, f3, f4, f5, f6, f7, a1, a2, a3, a4, a5, a6, a7, a8, a9, a10, a11, a12, a13, a14, a15, a16, a17, a18, a19, a20, a21, a22) (nI p)) → wX_turn_2 post (m + 1) (nI i) f1 f2 f3 f4 f5 f6 f7 a1 a2 a3 a4 a5 a6 a7 a8 a9 a10 a11 a12 a13 a14 a15 a16 a17 a18 a19 a20 a21 a22 := by
    intro m
    induction m with
    | zero =>
      intro i hi hw
      have e6 : i = 6 := by omega
      subst e6
      exact tk_turn6 h' hq he (fun z => H0 ⟨z, hw⟩) H1
    | succ m ih =>
      intro i hi hw
      refine pk_le 6 i (fun z => absurd z (by omega)) (fun _ => ⟨pk_in i 6 (by omega), tk_ifr i (fun z => ?_) (fun z => nm_r (nI_1 i) (ih (i + 1) (by omega) (lt_s hw (fun y => absurd y z))))⟩)
      obtain ⟨j, hj, ej⟩ := (hP i (by omega)).2.2.2.2 z
      obtain ⟨v, hv, _⟩ := @tk_would f1 f2 f3 f4 f5 f6 f7 a1 a2 a3 a4 a5 a6 a7 a8 a9 a10 a11 a12 a13 a14 a15 a16 a17 a18 a19 a20 a21 a22 i j hC hD (by omega) hj ej
      refine hv _ (br_c (fun _ => tk_st i 1 rfl (by omega) rfl ?_) (fun v0 => nm_r (nI_1 i) (ih (i + 1) (by omega) (lt_s hw (fun _ => ⟨v, v0, hv⟩)))))
      exact tk_wake h' (by omega) z (fun k c2 c10 hk' hJ => nm_r (nI_1 i) (tk_turnB hq he H1 m (i + 1) (by omega) _ _ _ _ _ _ _ _ _ _ _ _ _ _ _ _ _ _ _ _ _ _ _ _ _ _ _ _ _ hJ ⟨k, hk', rfl⟩))
  exact ⟨7, key 6 0 rfl (fun p hp => absurd hp (by omega))⟩
theorem tk_turn_idle {post : Int32 → St1 → Prop} (h : tk_idle (f1, f2, f3, f4, f5, f6, f7, a1, a2, a3, a4, a5, a6, a7, a8, a9, a10, a11, a12, a13, a14, a15, a16, a17, a18, a19, a20, a21, a22)) (H : post 0 (f1, f2, f3, f4, f5, f6, f7, a1, a2, a3, a4, a5, a6, a7, a8, a9, a10, a11, a12, a13, a14, a15, a16, a17, a18, a19, a20, a21, a22)) : wpX_turn post (f1, f2, f3, f4, f5, f6, f7, a1, a2, a3, a4, a5, a6, a7, a8, a9, a10, a11, a12, a13, a14, a15, a16, a17, a18, a19, a20, a21, a22) := by
  obtain ⟨e1, hw⟩ := h
  refine pk_loop (σ := Unit) (fun n i _ => wX_turn_2 post n (nI i) f1 f2 f3 f4 f5 f6 f7 a1 a2 a3 a4 a5 a6 a7 a8 a9 a10 a11 a12 a13 a14 a15 a16 a17 a18 a19 a20 a21 a22) (fun _ _ => True) 6 0 () (by omega) trivial
    (fun n _ _ => pk_le 6 6 (fun _ => br_f (by rw [e1]; decide) (br_f (by decide) H)) (fun z => absurd z (by omega)))
    (fun n i _ hi _ hn => pk_le 6 i (fun z => absurd z (by omega)) (fun _ => ⟨pk_in i 6 hi, tk_ifr i (fun z => ?_) (fun _ => nm_r (nI_1 i) (hn () trivial))⟩))
  obtain ⟨v, v0, hv⟩ := hw i hi z
  exact hv _ (br_f v0 (nm_r (nI_1 i) (hn () trivial)))
theorem tk_run {post : Int32 → St1 → Prop} {e q L : Nat} (h : tk_I e q 6 (f1, f2, f3, f4, f5, f6, f7, a1, a2, a3, a4, a5, a6, a7, a8, a9, a10, a11, a12, a13, a14, a15, a16, a17, a18, a19, a20, a21, a22)) (hL : L ≤ 80) (hq : q ≤ e) (he : e + 3 * L < 2 ^ 30)
    (H : ∀ d e' q' u, d ≤ L → e ≤ e' → e' ≤ e + 3 * d → q' ≤ e' → tk_I e' q' 6 u → (d < L → tk_idle u) → post (nI d) u) : ∃ n, wX_run_26 post (nI L) n 0 1 f1 f2 f3 f4 f5 f6 f7 a1 a2 a3 a4 a5 a6 a7 a8 a9 a10 a11 a12 a13 a14 a15 a16 a17 a18 a19 a20 a21 a22 := by
  have key : ∀ m d, d + m = L → ∀ (e' q' : Nat) (g1 g2 g3 g4 : Int32) (g5 : Int64) (g6 g7 : Int32) (b1 b2 b3 b4 b5 b6 b7 b8 b9 b10 b11 b12 b13 b14 b15 b16 b17 b18 b19 b20 b21 b22 : Nat → Int32), e ≤ e' → e' ≤ e + 3 * d → q' ≤ e' → tk_I e' q' 6 (g1, g2, g3, g4, g5, g6, g7, b1, b2, b3, b4, b5, b6, b7, b8, b9, b10, b11, b12, b13, b14, b15, b16, b17, b18, b19, b20, b21, b22) → wX_run_26 post (nI L) (m + 2) (nI d) 1 g1 g2 g3 g4 g5 g6 g7 b1 b2 b3 b4 b5 b6 b7 b8 b9 b10 b11 b12 b13 b14 b15 b16 b17 b18 b19 b20 b21 b22 := by
    intro m
    induction m with
    | zero =>
      intro d hd e' q' g1 g2 g3 g4 g5 g6 g7 b1 b2 b3 b4 b5 b6 b7 b8 b9 b10 b11 b12 b13 b14 b15 b16 b17 b18 b19 b20 b21 b22 k1 k2 k3 hI
      exact pk_le L d (fun _ => H d e' q' _ (by omega) k1 k2 k3 hI (fun z => absurd z (by omega))) (fun z => absurd z (by omega))
    | succ m ih =>
      intro d hd e' q' g1 g2 g3 g4 g5 g6 g7 b1 b2 b3 b4 b5 b6 b7 b8 b9 b10 b11 b12 b13 b14 b15 b16 b17 b18 b19 b20 b21 b22 k1 k2 k3 hI
      refine pk_le L d (fun z => absurd z (by omega)) (fun _ => br_f (by decide) (tk_turn hI k3 (by omega) (fun hid => br_t rfl ?_) ?_))
      · exact pk_le L d (fun z => absurd z (by omega)) (fun _ => br_t rfl (H d e' q' _ (by omega) k1 k2 k3 hI (fun _ => hid)))
      · rintro e'' q'' ⟨c1, c2, c3, c4, c5, c6, c7, d1, d2, d3, d4, d5, d6, d7, d8, d9, d10, d11, d12, d13, d14, d15, d16, d17, d18, d19, d20, d21, d22⟩ j1 j2 j3 hJ
        exact br_f (by decide) (nm_r (nI_1 d) (ih (d + 1) (by omega) e'' q'' c1 c2 c3 c4 c5 c6 c7 d1 d2 d3 d4 d5 d6 d7 d8 d9 d10 d11 d12 d13 d14 d15 d16 d17 d18 d19 d20 d21 d22 (by omega) (by omega) j3 hJ))
  exact ⟨L + 2, key L 0 (by omega) e q f1 f2 f3 f4 f5 f6 f7 a1 a2 a3 a4 a5 a6 a7 a8 a9 a10 a11 a12 a13 a14 a15 a16 a17 a18 a19 a20 a21 a22 (Nat.le_refl _) (by omega) hq h⟩
theorem tk_run_idle {post : Int32 → St1 → Prop} (h : tk_idle (f1, f2, f3, f4, f5, f6, f7, a1, a2, a3, a4, a5, a6, a7, a8, a9, a10, a11, a12, a13, a14, a15, a16, a17, a18, a19, a20, a21, a22)) (H : post 0 (f1, f2, f3, f4, f5, f6, f7, a1, a2, a3, a4, a5, a6, a7, a8, a9, a10, a11, a12, a13, a14, a15, a16, a17, a18, a19, a20, a21, a22)) : wpX_run post (f1, f2, f3, f4, f5, f6, f7, a1, a2, a3, a4, a5, a6, a7, a8, a9, a10, a11, a12, a13, a14, a15, a16, a17, a18, a19, a20, a21, a22) 1 :=
  br_t (by decide) (br_t (by decide) ⟨2, br_f (by decide) (br_f (by decide) (tk_turn_idle h (br_t rfl (br_f (by decide) (br_t rfl H)))))⟩)
end
end
section
abbrev tk_J : Type := Int32 → Int32 → Int32 → Int32 → Int32 → Int64 → Int32 → Int32 → (Nat → Int32) → (Nat → Int32) → (Nat → Int32) → (Nat → Int32) → (Nat → Int32) → (Nat → Int32) → (Nat → Int32) → (Nat → Int32) → (Nat → Int32) → (Nat → Int32) → (Nat → Int32) → (Nat → Int32) → (Nat → Int32) → (Nat → Int32) → (Nat → Int32) → (Nat → Int32) → (Nat → Int32) → (Nat → Int32) → (Nat → Int32) → (Nat → Int32) → (Nat → Int32) → (Nat → Int32) → Prop
abbrev tk_JS : Type := Int64 → tk_J
/-! what is seen from outside, as pure values -/
def tk_vspot (a5 a6 : Nat → Int32) (p : Nat) : Int32 := if a5 p = 0 then -1000 else a6 p
def tk_vreg (a5 a8 : Nat → Int32) (p r : Nat) : Int32 := if a5 p = 1 ∨ a5 p = 2 then a8 (4 * p + r) else 0
def tk_vword (a5 : Nat → Int32) (w : Nat → Nat → Int32) (p i : Nat) : Int32 := if a5 p = 1 ∨ a5 p = 2 then w (4 * p + i / 8) (i % 8) else 0
def tk_vpipe (a12 a14 a15 : Nat → Int32) (k : Nat) : Int32 := if a14 k + a15 k ≤ 0 then -1 else a12 k
def tk_vout (f6 : Int32) (a22 : Nat → Int32) (k : Nat) : Int32 := if f6 ≤ nI k then 0 else a22 k
def tk_s58 (a5 a8 a9 : Nat → Int32) (p : Nat) : Nat → Nat → Int64 → Int64
  | 0, _, x => x
  | m + 1, i, x => tk_s58 a5 a8 a9 p m (i + 1) (((31 * x) + (tk_vreg a5 a8 p i).toInt64) + ((3 * tk_vreg a5 a9 p i).toInt64))
def tk_s99 (a5 : Nat → Int32) (w : Nat → Nat → Int32) (p : Nat) : Nat → Nat → Int64 → Int64
  | 0, _, x => x
  | m + 1, i, x => tk_s99 a5 w p m (i + 1) ((31 * x) + (tk_vword a5 w p i).toInt64)
def tk_s17 (a5 a6 a7 a8 a9 : Nat → Int32) (w : Nat → Nat → Int32) : Nat → Nat → Int64 → Int64
  | 0, _, x => x
  | m + 1, p, x => tk_s17 a5 a6 a7 a8 a9 w m (p + 1) (tk_s99 a5 w p 32 0 (tk_s58 a5 a8 a9 p 4 0 ((((31 * x) + (a5 p).toInt64) + ((5 * tk_vspot a5 a6 p).toInt64)) + ((7 * tk_vspot a5 a7 p).toInt64))))
def tk_s135 (f6 : Int32) (a12 a14 a15 a22 : Nat → Int32) : Nat → Nat → Int64 → Int64
  | 0, _, x => x
  | m + 1, k, x => tk_s135 f6 a12 a14 a15 a22 m (k + 1) (((31 * x) + (tk_vout f6 a22 k).toInt64) + (if k < 3 then (11 * tk_vpipe a12 a14 a15 k).toInt64 else (0 : Int32).toInt64))
theorem tk_s135_s (f6 : Int32) (a12 a14 a15 a22 : Nat → Int32) (m k : Nat) (x : Int64) : tk_s135 f6 a12 a14 a15 a22 (m + 1) k x = tk_s135 f6 a12 a14 a15 a22 m (k + 1) (((31 * x) + (tk_vout f6 a22 k).toInt64) + (if k < 3 then (11 * tk_vpipe a12 a14 a15 k).toInt64 else (0 : Int32).toInt64)) := rfl
def tk_sum (f5 : Int64) (f6 : Int32) (a5 a6 a7 a8 a9 a12 a14 a15 a22 : Nat → Int32) (w : Nat → Nat → Int32) : Int64 := tk_s135 f6 a12 a14 a15 a22 32 0 (tk_s17 a5 a6 a7 a8 a9 w 6 0 (f5 + (31 * f6.toInt64)))
/-- the memory after reads: the same words, and what was 0 in z is 0 -/
def tk_R (z : Nat → Int32) (w : Nat → Nat → Int32) (f3 : Int32) (a16 a17 a19 a20 a21 : Nat → Int32) : Prop := tk_N f3 a16 a17 a19 a20 a21 w ∧ ∀ y, y < 24 → z y = 0 → a16 y = 0
section
variable {f1 f2 f3 f4 : Int32} {f5 : Int64} {f6 f7 : Int32} {a1 a2 a3 a4 a5 a6 a7 a8 a9 a10 a11 a12 a13 a14 a15 a16 a17 a18 a19 a20 a21 a22 : Nat → Int32}
theorem tk_isP {post : Int32 → Prop} {p : Nat} (hp : p < 6) (H : post 1) : wpX_isProcess post (f1, f2, f3, f4, f5, f6, f7, a1, a2, a3, a4, a5, a6, a7, a8, a9, a10, a11, a12, a13, a14, a15, a16, a17, a18, a19, a20, a21, a22) (nI p) := br_f (nI_pos (by omega)) (br_f (nI_ge (b := 6) hp (by omega)) H)
theorem tk_isPo {post : Int32 → Prop} {v : Int32} (hv : v < 0 ∨ 6 ≤ v) (H : post 0) : wpX_isProcess post (f1, f2, f3, f4, f5, f6, f7, a1, a2, a3, a4, a5, a6, a7, a8, a9, a10, a11, a12, a13, a14, a15, a16, a17, a18, a19, a20, a21, a22) v := by
  refine br_c (fun _ => H) (fun h0 => br_c (fun _ => H) (fun h6 => ?_))
  rcases hv with z | z
  · exact absurd z h0
  · exact absurd z h6
theorem tk_state {post : Int32 → Prop} {p : Nat} (hp : p < 6) (H : post (a5 p)) : wpX_state post (f1, f2, f3, f4, f5, f6, f7, a1, a2, a3, a4, a5, a6, a7, a8, a9, a10, a11, a12, a13, a14, a15, a16, a17, a18, a19, a20, a21, a22) (nI p) := by
  unfold wpX_state
  exact tk_isP hp (br_f (by decide) ⟨pk_in p 6 hp, by rw [nI_clamp (by omega)]; exact H⟩)
theorem tk_state_o {post : Int32 → Prop} {v : Int32} (hv : v < 0 ∨ 6 ≤ v) (H : post (-1000)) : wpX_state post (f1, f2, f3, f4, f5, f6, f7, a1, a2, a3, a4, a5, a6, a7, a8, a9, a10, a11, a12, a13, a14, a15, a16, a17, a18, a19, a20, a21, a22) v := by
  unfold wpX_state
  exact tk_isPo hv (br_t rfl H)
theorem tk_spot {post : Int32 → Prop} {p : Nat} (hp : p < 6) (H : post (tk_vspot a5 a6 p)) : wpX_spot post (f1, f2, f3, f4, f5, f6, f7, a1, a2, a3, a4, a5, a6, a7, a8, a9, a10, a11, a12, a13, a14, a15, a16, a17, a18, a19, a20, a21, a22) (nI p) := by
  unfold wpX_spot
  unfold tk_vspot at H
  refine tk_isP hp (br_f (by decide) ⟨pk_in p 6 hp, tk_ifr p (fun z => ?_) (fun z => ⟨pk_in p 6 hp, ?_⟩)⟩)
  · rw [if_pos z] at H
    exact H
  · rw [if_neg z] at H
    rw [nI_clamp (by omega)]
    exact H
theorem tk_spot_o {post : Int32 → Prop} {v : Int32} (hv : v < 0 ∨ 6 ≤ v) (H : post (-1000)) : wpX_spot post (f1, f2, f3, f4, f5, f6, f7, a1, a2, a3, a4, a5, a6, a7, a8, a9, a10, a11, a12, a13, a14, a15, a16, a17, a18, a19, a20, a21, a22) v := by
  unfold wpX_spot
  exact tk_isPo hv (br_t rfl H)
theorem tk_parent {post : Int32 → Prop} {p : Nat} (hp : p < 6) (H : post (tk_vspot a5 a7 p)) : wpX_parent post (f1, f2, f3, f4, f5, f6, f7, a1, a2, a3, a4, a5, a6, a7, a8, a9, a10, a11, a12, a13, a14, a15, a16, a17, a18, a19, a20, a21, a22) (nI p) := by
  unfold wpX_parent
  unfold tk_vspot at H
  refine tk_isP hp (br_f (by decide) ⟨pk_in p 6 hp, tk_ifr p (fun z => ?_) (fun z => ⟨pk_in p 6 hp, ?_⟩)⟩)
  · rw [if_pos z] at H
    exact H
  · rw [if_neg z] at H
    rw [nI_clamp (by omega)]
    exact H
theorem tk_parent_o {post : Int32 → Prop} {v : Int32} (hv : v < 0 ∨ 6 ≤ v) (H : post (-1000)) : wpX_parent post (f1, f2, f3, f4, f5, f6, f7, a1, a2, a3, a4, a5, a6, a7, a8, a9, a10, a11, a12, a13, a14, a15, a16, a17, a18, a19, a20, a21, a22) v := by
  unfold wpX_parent
  exact tk_isPo hv (br_t rfl H)
theorem tk_isAl {post : Int32 → Prop} {p : Nat} (hp : p < 6) (H1 : tk_al a5 p → post 1) (H0 : ¬ tk_al a5 p → post 0) : wpX_isAlive post (f1, f2, f3, f4, f5, f6, f7, a1, a2, a3, a4, a5, a6, a7, a8, a9, a10, a11, a12, a13, a14, a15, a16, a17, a18, a19, a20, a21, a22) (nI p) := by
  unfold wpX_isAlive
  exact tk_isP hp (br_f (by decide) ⟨pk_in p 6 hp, tk_ifr p (fun z => H1 (Or.inl z)) (fun z => ⟨pk_in p 6 hp, tk_ifr p (fun y => H1 (Or.inr y)) (fun y => H0 (fun q => q.elim z y))⟩)⟩)
theorem tk_reg {post : Int32 → Prop} {p r : Nat} (hp : p < 6) (hr : r < 4) (H : post (tk_vreg a5 a8 p r)) : wpX_register post (f1, f2, f3, f4, f5, f6, f7, a1, a2, a3, a4, a5, a6, a7, a8, a9, a10, a11, a12, a13, a14, a15, a16, a17, a18, a19, a20, a21, a22) (nI p) (nI r) := by
  unfold wpX_register
  unfold tk_vreg at H
  refine tk_isAl hp (fun z => br_f (by decide) (br_f (nI_pos (by omega)) (br_f (nI_nlt (a := 3) (b := r) (by omega) (by omega)) ⟨pk_in (4 * p + r) 24 (by omega) (tk_i4 p r), ?_⟩))) (fun z => br_t rfl ?_)
  · rw [if_pos (show a5 p = 1 ∨ a5 p = 2 from z)] at H
    rw [tk_i4, nI_clamp (by omega)]
    exact H
  · rw [if_neg (show ¬ (a5 p = 1 ∨ a5 p = 2) from z)] at H
    exact H
theorem tk_reg_o {post : Int32 → Prop} {p : Nat} {v : Int32} (hp : p < 6) (hv : v < 0 ∨ 3 < v) (H : post 0) : wpX_register post (f1, f2, f3, f4, f5, f6, f7, a1, a2, a3, a4, a5, a6, a7, a8, a9, a10, a11, a12, a13, a14, a15, a16, a17, a18, a19, a20, a21, a22) (nI p) v := by
  unfold wpX_register
  refine tk_isAl hp (fun _ => br_f (by decide) (br_c (fun _ => H) (fun h0 => br_c (fun _ => H) (fun h3 => ?_)))) (fun _ => br_t rfl H)
  rcases hv with z | z
  · exact absurd z h0
  · exact absurd z h3
theorem tk_des {post : Int32 → Prop} {p r : Nat} (hp : p < 6) (hr : r < 4) (H : post (tk_vreg a5 a9 p r)) : wpX_descriptor post (f1, f2, f3, f4, f5, f6, f7, a1, a2, a3, a4, a5, a6, a7, a8, a9, a10, a11, a12, a13, a14, a15, a16, a17, a18, a19, a20, a21, a22) (nI p) (nI r) := by
  unfold wpX_descriptor
  unfold tk_vreg at H
  refine tk_isAl hp (fun z => br_f (by decide) (br_f (nI_pos (by omega)) (br_f (nI_nlt (a := 3) (b := r) (by omega) (by omega)) ⟨pk_in (4 * p + r) 24 (by omega) (tk_i4 p r), ?_⟩))) (fun z => br_t rfl ?_)
  · rw [if_pos (show a5 p = 1 ∨ a5 p = 2 from z)] at H
    rw [tk_i4, nI_clamp (by omega)]
    exact H
  · rw [if_neg (show ¬ (a5 p = 1 ∨ a5 p = 2) from z)] at H
    exact H
theorem tk_des_o {post : Int32 → Prop} {p : Nat} {v : Int32} (hp : p < 6) (hv : v < 0 ∨ 3 < v) (H : post 0) : wpX_descriptor post (f1, f2, f3, f4, f5, f6, f7, a1, a2, a3, a4, a5, a6, a7, a8, a9, a10, a11, a12, a13, a14, a15, a16, a17, a18, a19, a20, a21, a22) (nI p) v := by
  unfold wpX_descriptor
  refine tk_isAl hp (fun _ => br_f (by decide) (br_c (fun _ => H) (fun h0 => br_c (fun _ => H) (fun h3 => ?_)))) (fun _ => br_t rfl H)
  rcases hv with z | z
  · exact absurd z h0
  · exact absurd z h3
theorem tk_word {post : Int32 → St1 → Prop} {z : Nat → Int32} {w : Nat → Nat → Int32} {p i : Nat} (hp : p < 6) (hi : i < 32) (hR : tk_R z w f3 a16 a17 a19 a20 a21)
    (H : ∀ h b16 b17 b18 b19 b20 b21, tk_R z w h b16 b17 b19 b20 b21 → post (tk_vword a5 w p i) (f1, f2, h, f4, f5, f6, f7, a1, a2, a3, a4, a5, a6, a7, a8, a9, a10, a11, a12, a13, a14, a15, b16, b17, b18, b19, b20, b21, a22)) : wpX_word post (f1, f2, f3, f4, f5, f6, f7, a1, a2, a3, a4, a5, a6, a7, a8, a9, a10, a11, a12, a13, a14, a15, a16, a17, a18, a19, a20, a21, a22) (nI p) (nI i) := by
  unfold wpX_word
  unfold tk_vword at H
  refine tk_isAl hp (fun y => br_f (by decide) (br_f (nI_pos (by omega)) (br_f (nI_nlt (a := 31) (b := i) (by omega) (by omega)) ?_))) (fun y => br_t rfl ?_)
  · rw [if_pos (show a5 p = 1 ∨ a5 p = 2 from y)] at H
    exact tk_readWord hp hi hR.1 (fun h b16 b17 b18 b19 b20 b21 hN hz => H h b16 b17 b18 b19 b20 b21 ⟨hN, fun x hx ex => hz x hx (hR.2 x hx ex)⟩)
  · rw [if_neg (show ¬ (a5 p = 1 ∨ a5 p = 2) from y)] at H
    exact H f3 a16 a17 a18 a19 a20 a21 hR
theorem tk_word_d {post : Int32 → St1 → Prop} {p : Nat} {v : Int32} (hp : p < 6) (hn : ¬ tk_al a5 p) (H : post 0 (f1, f2, f3, f4, f5, f6, f7, a1, a2, a3, a4, a5, a6, a7, a8, a9, a10, a11, a12, a13, a14, a15, a16, a17, a18, a19, a20, a21, a22)) : wpX_word post (f1, f2, f3, f4, f5, f6, f7, a1, a2, a3, a4, a5, a6, a7, a8, a9, a10, a11, a12, a13, a14, a15, a16, a17, a18, a19, a20, a21, a22) (nI p) v := by
  unfold wpX_word
  exact tk_isAl hp (fun y => absurd y hn) (fun _ => br_t rfl H)
theorem tk_word_32 {post : Int32 → St1 → Prop} {p : Nat} (hp : p < 6) (H : post 0 (f1, f2, f3, f4, f5, f6, f7, a1, a2, a3, a4, a5, a6, a7, a8, a9, a10, a11, a12, a13, a14, a15, a16, a17, a18, a19, a20, a21, a22)) : wpX_word post (f1, f2, f3, f4, f5, f6, f7, a1, a2, a3, a4, a5, a6, a7, a8, a9, a10, a11, a12, a13, a14, a15, a16, a17, a18, a19, a20, a21, a22) (nI p) 32 := by
  unfold wpX_word
  exact tk_isAl hp (fun y => br_f (by decide) (br_f (by decide) (br_t (by decide) H))) (fun _ => br_t rfl H)
theorem tk_pipe {post : Int32 → Prop} {k : Nat} (hk : k < 3) (H : post (tk_vpipe a12 a14 a15 k)) : wpX_pipe post (f1, f2, f3, f4, f5, f6, f7, a1, a2, a3, a4, a5, a6, a7, a8, a9, a10, a11, a12, a13, a14, a15, a16, a17, a18, a19, a20, a21, a22) (nI k) := by
  unfold tk_vpipe at H
  refine br_f (nI_pos (by omega)) (br_t (nI_le (b := 2) (by omega) (by omega)) ⟨pk_in k 3 hk, pk_in k 3 hk, ?_⟩)
  refine ek_if (d := a14 k + a15 k ≤ 0) (by rw [nI_clamp (by omega)]) (fun z => br_t rfl ?_) (fun z => br_f (by decide) ⟨pk_in k 3 hk, ?_⟩)
  · rw [if_pos z] at H
    exact H
  · rw [if_neg z] at H
    rw [nI_clamp (by omega)]
    exact H
theorem tk_out {post : Int32 → Prop} {k : Nat} (hk : k < 32) (H : post (tk_vout f6 a22 k)) : wpX_output post (f1, f2, f3, f4, f5, f6, f7, a1, a2, a3, a4, a5, a6, a7, a8, a9, a10, a11, a12, a13, a14, a15, a16, a17, a18, a19, a20, a21, a22) (nI k) := by
  unfold tk_vout at H
  refine br_f (nI_pos (by omega)) (br_c (fun z => ?_) (fun z => br_t (nI_le (b := 31) (by omega) (by omega)) ⟨pk_in k 32 hk, ?_⟩))
  · rw [if_pos z] at H
    exact H
  · rw [if_neg z] at H
    rw [nI_clamp (by omega)]
    exact H
/-! the sum -/
theorem tk_w135 {post : Int64 → St1 → Prop} : ∀ m i x, i + m = 32 → post (tk_s135 f6 a12 a14 a15 a22 m i x) (f1, f2, f3, f4, f5, f6, f7, a1, a2, a3, a4, a5, a6, a7, a8, a9, a10, a11, a12, a13, a14, a15, a16, a17, a18, a19, a20, a21, a22) → wL_sum_135 post f1 f2 f3 f4 f5 f6 f7 a1 a2 a3 a4 a5 a6 a7 a8 a9 a10 a11 a12 a13 a14 a15 a16 a17 a18 a19 a20 a21 a22 (m + 1) x (nI i) := by
  intro m
  induction m with
  | zero =>
    intro i x hi H
    exact pk_le 32 i (fun _ => H) (fun z => absurd z (by omega))
  | succ m ih =>
    intro i x hi H
    refine pk_le 32 i (fun z => absurd z (by omega)) (fun _ => tk_out (by omega) (pk_le 3 i (fun z => nm_e (nm_r (nI_1 i) (ih (i + 1) _ (by omega) ?_))) (fun z => tk_pipe z (nm_e (nm_r (nI_1 i) (ih (i + 1) _ (by omega) ?_))))))
    · rw [tk_s135_s, if_neg (by omega)] at H
      exact H
    · rw [tk_s135_s, if_pos z] at H
      exact H
theorem tk_w99 {post : Int64 → St1 → Prop} {J : tk_JS}
    {z : Nat → Int32} {w : Nat → Nat → Int32} {p : Nat} (hp : p < 6) : ∀ m i x, i + m = 32 → ∀ g3 b16 b17 b18 b19 b20 b21, tk_R z w g3 b16 b17 b19 b20 b21 →
    (∀ h c16 c17 c18 c19 c20 c21, tk_R z w h c16 c17 c19 c20 c21 → J (tk_s99 a5 w p m i x) (nI (p + 1)) f1 f2 h f4 f5 f6 f7 a1 a2 a3 a4 a5 a6 a7 a8 a9 a10 a11 a12 a13 a14 a15 c16 c17 c18 c19 c20 c21 a22) →
    wL_sum_99 post J (nI p) (m + 1) x (nI i) f1 f2 g3 f4 f5 f6 f7 a1 a2 a3 a4 a5 a6 a7 a8 a9 a10 a11 a12 a13 a14 a15 b16 b17 b18 b19 b20 b21 a22 := by
  intro m
  induction m with
  | zero =>
    intro i x hi g3 b16 b17 b18 b19 b20 b21 hR H
    exact pk_le 32 i (fun _ => nm_r (nI_1 p) (H g3 b16 b17 b18 b19 b20 b21 hR)) (fun z => absurd z (by omega))
  | succ m ih =>
    intro i x hi g3 b16 b17 b18 b19 b20 b21 hR H
    refine pk_le 32 i (fun z => absurd z (by omega)) (fun _ => tk_word hp (by omega) hR (fun h c16 c17 c18 c19 c20 c21 hR' => nm_e (nm_r (nI_1 i) ?_)))
    exact ih (i + 1) _ (by omega) h c16 c17 c18 c19 c20 c21 hR' H
theorem tk_w58 {post : Int64 → St1 → Prop} {J : tk_JS}
    {p : Nat} (hp : p < 6) : ∀ m i x, i + m = 4 → (∃ n, wL_sum_99 post J (nI p) n (tk_s58 a5 a8 a9 p m i x) 0 f1 f2 f3 f4 f5 f6 f7 a1 a2 a3 a4 a5 a6 a7 a8 a9 a10 a11 a12 a13 a14 a15 a16 a17 a18 a19 a20 a21 a22) → wL_sum_58 post J (nI p) f1 f2 f3 f4 f5 f6 f7 a1 a2 a3 a4 a5 a6 a7 a8 a9 a10 a11 a12 a13 a14 a15 a16 a17 a18 a19 a20 a21 a22 (m + 1) x (nI i) := by
  intro m
  induction m with
  | zero =>
    intro i x hi H
    exact pk_le 4 i (fun _ => H) (fun z => absurd z (by omega))
  | succ m ih =>
    intro i x hi H
    refine pk_le 4 i (fun z => absurd z (by omega)) (fun _ => tk_reg hp (by omega) (tk_des hp (by omega) (nm_e (nm_r (nI_1 i) ?_))))
    exact ih (i + 1) _ (by omega) H
theorem tk_w17 {post : Int64 → St1 → Prop} {z : Nat → Int32} {w : Nat → Nat → Int32} : ∀ m p x, p + m = 6 → ∀ g3 b16 b17 b18 b19 b20 b21, tk_R z w g3 b16 b17 b19 b20 b21 →
    (∀ h c16 c17 c18 c19 c20 c21, tk_R z w h c16 c17 c19 c20 c21 → post (tk_s135 f6 a12 a14 a15 a22 32 0 (tk_s17 a5 a6 a7 a8 a9 w m p x)) (f1, f2, h, f4, f5, f6, f7, a1, a2, a3, a4, a5, a6, a7, a8, a9, a10, a11, a12, a13, a14, a15, c16, c17, c18, c19, c20, c21, a22)) →
    wL_sum_17 post (m + 1) x (nI p) f1 f2 g3 f4 f5 f6 f7 a1 a2 a3 a4 a5 a6 a7 a8 a9 a10 a11 a12 a13 a14 a15 b16 b17 b18 b19 b20 b21 a22 := by
  intro m
  induction m with
  | zero =>
    intro p x hp g3 b16 b17 b18 b19 b20 b21 hR H
    exact pk_le 6 p (fun _ => ⟨33, tk_w135 32 0 _ (by omega) (H g3 b16 b17 b18 b19 b20 b21 hR)⟩) (fun z => absurd z (by omega))
  | succ m ih =>
    intro p x hp g3 b16 b17 b18 b19 b20 b21 hR H
    refine pk_le 6 p (fun z => absurd z (by omega)) (fun _ => tk_state (by omega) (tk_spot (by omega) (tk_parent (by omega) (nm_e ⟨5, tk_w58 (by omega) 4 0 _ (by omega) ⟨33, ?_⟩⟩))))
    refine tk_w99 (by omega) 32 0 _ (by omega) g3 b16 b17 b18 b19 b20 b21 hR (fun h c16 c17 c18 c19 c20 c21 hR' => ?_)
    exact ih (p + 1) _ (by omega) h c16 c17 c18 c19 c20 c21 hR' H
theorem tk_sumL {post : Int64 → St1 → Prop} {w : Nat → Nat → Int32} (hN : tk_N f3 a16 a17 a19 a20 a21 w)
    (H : ∀ h b16 b17 b18 b19 b20 b21, tk_R a16 w h b16 b17 b19 b20 b21 → post (tk_sum f5 f6 a5 a6 a7 a8 a9 a12 a14 a15 a22 w) (f1, f2, h, f4, f5, f6, f7, a1, a2, a3, a4, a5, a6, a7, a8, a9, a10, a11, a12, a13, a14, a15, b16, b17, b18, b19, b20, b21, a22)) : wpL_sum post (f1, f2, f3, f4, f5, f6, f7, a1, a2, a3, a4, a5, a6, a7, a8, a9, a10, a11, a12, a13, a14, a15, a16, a17, a18, a19, a20, a21, a22) :=
  nm_e ⟨7, tk_w17 6 0 _ (by omega) f3 a16 a17 a18 a19 a20 a21 ⟨hN, fun _ _ q => q⟩ H⟩
end
end
section
section
variable {f1 f2 f3 f4 : Int32} {f5 : Int64} {f6 f7 : Int32} {a1 a2 a3 a4 a5 a6 a7 a8 a9 a10 a11 a12 a13 a14 a15 a16 a17 a18 a19 a20 a21 a22 : Nat → Int32}
theorem tk_printed {post : Int32 → Prop} (H : post f6) : wpX_printed post (f1, f2, f3, f4, f5, f6, f7, a1, a2, a3, a4, a5, a6, a7, a8, a9, a10, a11, a12, a13, a14, a15, a16, a17, a18, a19, a20, a21, a22) := H
theorem tk_executed {post : Int64 → Prop} (H : post f5) : wpX_executed post (f1, f2, f3, f4, f5, f6, f7, a1, a2, a3, a4, a5, a6, a7, a8, a9, a10, a11, a12, a13, a14, a15, a16, a17, a18, a19, a20, a21, a22) := H
theorem tk_in1 {post : Int32 → Prop} {a b : Nat} (hab : a ≤ b) (hb : b < 2 ^ 31) (H : post 1) : wpL_in post () (nI a) 0 (nI b) := br_f (nI_pos (by omega)) (br_f (nI_nlt hab hb) H)
theorem tk_pipeD {post : Int32 → Prop} {k : Nat} (hk : k < 3) (hD : tk_D a9 a11 a12 a14 a15) (H0 : post (-1)) (H : ∀ c, c < 5 → post (nI c)) : wpX_pipe post (f1, f2, f3, f4, f5, f6, f7, a1, a2, a3, a4, a5, a6, a7, a8, a9, a10, a11, a12, a13, a14, a15, a16, a17, a18, a19, a20, a21, a22) (nI k) := by
  obtain ⟨_, _, _, ⟨c, hc, ec⟩⟩ := hD.2 k hk
  refine br_f (nI_pos (by omega)) (br_t (nI_le (b := 2) (by omega) (by omega)) (tk_isThere hk hD (fun _ _ => br_t rfl H0) (fun _ => br_f (by decide) ⟨pk_in k 3 hk, ?_⟩)))
  rw [tk_at ec]
  exact H c hc
theorem tk_pipeT {post : Int32 → Prop} {k : Nat} (hk : k < 3) (hD : tk_D a9 a11 a12 a14 a15) (ht : 0 < tk_cnt a9 (nI (1 + 2 * k)) 24 + tk_cnt a9 (nI (2 + 2 * k)) 24) (H : ∀ c, c < 5 → post (nI c)) : wpX_pipe post (f1, f2, f3, f4, f5, f6, f7, a1, a2, a3, a4, a5, a6, a7, a8, a9, a10, a11, a12, a13, a14, a15, a16, a17, a18, a19, a20, a21, a22) (nI k) := by
  obtain ⟨_, _, _, ⟨c, hc, ec⟩⟩ := hD.2 k hk
  refine br_f (nI_pos (by omega)) (br_t (nI_le (b := 2) (by omega) (by omega)) (tk_isThere hk hD (fun z1 z2 => absurd ht (by omega)) (fun _ => br_f (by decide) ⟨pk_in k 3 hk, ?_⟩)))
  rw [tk_at ec]
  exact H c hc
theorem tk_h213 {post : Int32 → St1 → Prop} {J2 J : tk_J} {x1 x4 : Int32} {d n : Nat} (hD : tk_D a9 a11 a12 a14 a15) (hn : n < 7) (hex : n ≠ 0 → ∃ x, x < 24 ∧ a9 x = nI n) (H : J (nI (d + 1)) f1 f2 f3 f4 f5 f6 f7 a1 a2 a3 a4 a5 a6 a7 a8 a9 a10 a11 a12 a13 a14 a15 a16 a17 a18 a19 a20 a21 a22) : wL_holds_213 post J2 J x1 x4 (nI d) (nI n) f1 f2 f3 f4 f5 f6 f7 a1 a2 a3 a4 a5 a6 a7 a8 a9 a10 a11 a12 a13 a14 a15 a16 a17 a18 a19 a20 a21 a22 := by
  refine pk_le n 0 (fun _ => nm_r (nI_1 d) H) (fun n0 => ⟨by decide, ?_⟩)
  obtain ⟨k, hk, hnk⟩ := tk_end7 hn (by omega)
  obtain ⟨x, hx, ex⟩ := hex (by omega)
  rw [tk_half hnk hk]
  refine tk_pipeT hk hD ?_ (fun c hc => br_t (nI_pos' (by omega)) (nm_r (nI_1 d) H))
  rcases hnk with q | q
  · have := tk_cnt_pos (a := a9) (v := nI (1 + 2 * k)) hx (by rw [ex, q])
    omega
  · have := tk_cnt_pos (a := a9) (v := nI (2 + 2 * k)) hx (by rw [ex, q])
    omega
theorem tk_h157 {post : Int32 → St1 → Prop} {J2 : tk_J} {p : Nat} {x4 : Int32} (hp : p < 6) (hD : tk_D a9 a11 a12 a14 a15) (h4 : x4 = 0 → ¬ tk_al a5 p) (H : J2 (nI (p + 1)) f1 f2 f3 f4 f5 f6 f7 a1 a2 a3 a4 a5 a6 a7 a8 a9 a10 a11 a12 a13 a14 a15 a16 a17 a18 a19 a20 a21 a22) : ∃ n, wL_holds_157 post J2 (nI p) x4 n 0 f1 f2 f3 f4 f5 f6 f7 a1 a2 a3 a4 a5 a6 a7 a8 a9 a10 a11 a12 a13 a14 a15 a16 a17 a18 a19 a20 a21 a22 := by
  have key : ∀ m i, i + m = 4 → wL_holds_157 post J2 (nI p) x4 (m + 1) (nI i) f1 f2 f3 f4 f5 f6 f7 a1 a2 a3 a4 a5 a6 a7 a8 a9 a10 a11 a12 a13 a14 a15 a16 a17 a18 a19 a20 a21 a22 := by
    intro m
    induction m with
    | zero =>
      intro i hi
      refine pk_le 4 i (fun _ => ?_) (fun z => absurd z (by omega))
      exact tk_reg_o hp (Or.inr (by decide)) (br_t rfl (tk_word_32 hp (br_t rfl (tk_des_o hp (Or.inl (by decide)) (br_t rfl (nm_r (nI_1 p) H))))))
    | succ m ih =>
      intro i hi
      have hv : ∃ n, n < 7 ∧ tk_vreg a5 a9 p i = nI n ∧ (n ≠ 0 → ∃ x, x < 24 ∧ a9 x = nI n) ∧ (¬ tk_al a5 p → n = 0) := by
        by_cases ha : a5 p = 1 ∨ a5 p = 2
        · obtain ⟨n, hn, en⟩ := hD.1 (4 * p + i) (by omega)
          exact ⟨n, hn, by unfold tk_vreg; rw [if_pos ha, en], fun _ => ⟨4 * p + i, by omega, en⟩, fun z => absurd ha z⟩
        · exact ⟨0, by omega, by unfold tk_vreg; rw [if_neg ha]; rfl, fun z => absurd rfl z, fun _ => rfl⟩
      obtain ⟨n, hn, en, hex, hn0⟩ := hv
      refine pk_le 4 i (fun z => absurd z (by omega)) (fun _ => tk_des hp (by omega) ?_)
      rw [en]
      refine tk_in1 (b := 6) (by omega) (by omega) (br_f (by decide) (br_c (fun z => ?_) (fun _ => tk_h213 hD hn hex (ih (i + 1) (by omega)))))
      have hna := h4 z
      refine br_t (by rw [hn0 hna]; rfl) (tk_reg hp (by omega) (br_t (if_neg hna) (tk_word_d hp hna (br_t rfl ?_))))
      exact tk_h213 hD hn hex (ih (i + 1) (by omega))
  exact ⟨5, key 4 0 (by omega)⟩
theorem tk_h35 {post : Int32 → St1 → Prop} {J2 : tk_J} {p : Nat} {x4 : Int32} (hp : p < 6) (hP : tk_P a5 a6 a7) (hD : tk_D a9 a11 a12 a14 a15) (h4 : x4 = 0 → ¬ tk_al a5 p) (H : J2 (nI (p + 1)) f1 f2 f3 f4 f5 f6 f7 a1 a2 a3 a4 a5 a6 a7 a8 a9 a10 a11 a12 a13 a14 a15 a16 a17 a18 a19 a20 a21 a22) : wL_holds_35 post J2 (nI p) (a5 p) (tk_vspot a5 a7 p) x4 f1 f2 f3 f4 f5 f6 f7 a1 a2 a3 a4 a5 a6 a7 a8 a9 a10 a11 a12 a13 a14 a15 a16 a17 a18 a19 a20 a21 a22 := by
  obtain ⟨⟨s, hs, es⟩, p2, p3, p4, p5⟩ := hP p hp
  have h129 : wL_holds_129 post J2 (nI p) (a5 p) x4 f1 f2 f3 f4 f5 f6 f7 a1 a2 a3 a4 a5 a6 a7 a8 a9 a10 a11 a12 a13 a14 a15 a16 a17 a18 a19 a20 a21 a22 := by
    refine br_c (fun z => ?_) (fun _ => tk_h157 hp hD h4 H)
    obtain ⟨i, hi, ei⟩ := p5 z
    have ev : tk_vspot a5 a6 p = nI i := by
      unfold tk_vspot
      rw [if_neg (by rw [z]; decide), ei]
    refine tk_spot hp (br_f (by rw [ev]; exact nI_pos (by omega)) (tk_spot hp (br_t (by rw [ev]; exact nI_le (b := 63) (by omega) (by omega)) (tk_h157 hp hD h4 H))))
  have h118 : wL_holds_118 post J2 (nI p) (a5 p) (tk_vspot a5 a7 p) x4 f1 f2 f3 f4 f5 f6 f7 a1 a2 a3 a4 a5 a6 a7 a8 a9 a10 a11 a12 a13 a14 a15 a16 a17 a18 a19 a20 a21 a22 := by
    refine br_c (fun z => br_t ?_ h129) (fun _ => h129)
    unfold tk_vspot
    rw [if_neg (by rw [z]; decide)]
    rcases p2 with y | ⟨q, hq, y⟩
    · exact absurd y (p4 z)
    · rw [y]
      exact nI_pos' (by omega)
  have h87 : wL_holds_87 post J2 (nI p) (a5 p) (tk_vspot a5 a7 p) x4 f1 f2 f3 f4 f5 f6 f7 a1 a2 a3 a4 a5 a6 a7 a8 a9 a10 a11 a12 a13 a14 a15 a16 a17 a18 a19 a20 a21 a22 := by
    by_cases z : a5 p = 0
    · refine br_t ?_ h118
      unfold tk_vspot
      rw [if_pos z]
      decide
    · have ev : tk_vspot a5 a7 p = a7 p := if_neg z
      rcases p2 with y | ⟨q, hq, y⟩
      · refine br_t ?_ h118
        rw [ev, y]
        decide
      · have h := p3 z q hq y
        rw [ev, y] at h118 ⊢
        refine br_f (nI_pos (by omega)) (br_f (nI_nlt (a := 5) (b := q) (by omega) (by omega)) (br_f (tk_ne h.1) (tk_state hq (br_f (tk_al0 h.2) (tk_state hq (br_f (tk_al3 h.2) h118))))))
  have h55 : ∀ z0 : Int32, (a5 p = 0 → z0 = 1) → (¬ a5 p = 0 → z0 = 0) → wL_holds_55 post J2 (nI p) (a5 p) (tk_vspot a5 a7 p) x4 z0 f1 f2 f3 f4 f5 f6 f7 a1 a2 a3 a4 a5 a6 a7 a8 a9 a10 a11 a12 a13 a14 a15 a16 a17 a18 a19 a20 a21 a22 := fun z0 k1 k2 => by
    by_cases z : a5 p = 0
    · refine br_t (if_pos z) (br_t (k1 z) (br_t z (tk_spot hp (br_t (if_pos z) h87))))
    · have ev : tk_vspot a5 a7 p = a7 p := if_neg z
      refine br_f ?_ (br_t (k2 z) (br_f z h87))
      rw [ev]
      rcases p2 with y | ⟨q, hq, y⟩
      · rw [y]
        decide
      · rw [y]
        intro e
        have := nI_pos (n := q) (by omega)
        rw [e] at this
        exact this (by decide)
  have hin : ∀ (f : Int32 → Prop), f 1 → wpL_in f () (a5 p) 0 3 := fun f hf => by
    rw [es]
    exact tk_in1 (b := 3) (by omega) (by omega) hf
  exact hin _ (br_f (by decide) (br_c (fun z => h55 1 (fun _ => rfl) (fun y => absurd z y)) (fun z => h55 0 (fun y => absurd y z) (fun _ => rfl))))
theorem tk_h277 {post : Int32 → St1 → Prop} {e q : Nat} (hD : tk_D a9 a11 a12 a14 a15) (h5 : f5 = lN e) (h6 : f6 = nI q) (hq : q ≤ e) (he : e < 2 ^ 30) (H : post 1 (f1, f2, f3, f4, f5, f6, f7, a1, a2, a3, a4, a5, a6, a7, a8, a9, a10, a11, a12, a13, a14, a15, a16, a17, a18, a19, a20, a21, a22)) : ∃ n, wL_holds_277 post f1 f2 f3 f4 f5 f6 f7 a1 a2 a3 a4 a5 a6 a7 a8 a9 a10 a11 a12 a13 a14 a15 a16 a17 a18 a19 a20 a21 a22 n 0 := by
  have fin : ∀ n, wL_holds_277 post f1 f2 f3 f4 f5 f6 f7 a1 a2 a3 a4 a5 a6 a7 a8 a9 a10 a11 a12 a13 a14 a15 a16 a17 a18 a19 a20 a21 a22 (n + 1) (nI 3) := fun n => by
    refine pk_le 3 3 (fun _ => tk_printed ?_) (fun z => absurd z (by omega))
    have o1 : ∀ f : Int32 → Prop, f 0 → wpX_output f (f1, f2, f3, f4, f5, f6, f7, a1, a2, a3, a4, a5, a6, a7, a8, a9, a10, a11, a12, a13, a14, a15, a16, a17, a18, a19, a20, a21, a22) f6 := fun f hf => by
      rw [h6]
      exact br_f (nI_pos (by omega)) (br_t (nI_le (Nat.le_refl _) (by omega)) hf)
    have o2 : ∀ f : Int32 → Prop, f 0 → wpX_output f (f1, f2, f3, f4, f5, f6, f7, a1, a2, a3, a4, a5, a6, a7, a8, a9, a10, a11, a12, a13, a14, a15, a16, a17, a18, a19, a20, a21, a22) 32 := fun f hf => br_f (by decide) (br_c (fun _ => hf) (fun _ => br_f (by decide) hf))
    refine o1 _ (br_t rfl (o2 _ (br_t rfl (tk_executed (br_f ?_ (tk_state_o (Or.inl (by decide)) (br_t rfl (tk_spot_o (Or.inr (by decide)) (br_t rfl ?_)))))))))
    · rw [h5, h6, nI_l (by omega), lN_lt (by omega) (by omega)]
      omega
    · exact br_t (by decide) (br_t rfl (br_t (by decide) (br_t rfl H)))
  have key : ∀ m i, i + m = 3 → wL_holds_277 post f1 f2 f3 f4 f5 f6 f7 a1 a2 a3 a4 a5 a6 a7 a8 a9 a10 a11 a12 a13 a14 a15 a16 a17 a18 a19 a20 a21 a22 (m + 1) (nI i) := by
    intro m
    induction m with
    | zero =>
      intro i hi
      have e3 : i = 3 := by omega
      subst e3
      exact fin 0
    | succ m ih =>
      intro i hi
      refine pk_le 3 i (fun z => absurd z (by omega)) (fun _ => ?_)
      have two : ∀ f : Int32 → Prop, f (-1) → (∀ c, c < 5 → f (nI c)) → wpX_pipe f (f1, f2, f3, f4, f5, f6, f7, a1, a2, a3, a4, a5, a6, a7, a8, a9, a10, a11, a12, a13, a14, a15, a16, a17, a18, a19, a20, a21, a22) (nI i) := fun f a b => tk_pipeD (by omega) hD a b
      have nx : ∀ v : Int32, v ≤ 4 → ((v ≤ 4 → (∀ x1_95, x1_95 = nI i + 1 → wL_holds_277 post f1 f2 f3 f4 f5 f6 f7 a1 a2 a3 a4 a5 a6 a7 a8 a9 a10 a11 a12 a13 a14 a15 a16 a17 a18 a19 a20 a21 a22 (m + 1) x1_95)) ∧ (¬ v ≤ 4 → post 0 (f1, f2, f3, f4, f5, f6, f7, a1, a2, a3, a4, a5, a6, a7, a8, a9, a10, a11, a12, a13, a14, a15, a16, a17, a18, a19, a20, a21, a22))) := fun v hv => br_t hv (nm_r (nI_1 i) (ih (i + 1) (by omega)))
      have nd : wpX_pipe (fun v => ((v ≤ 4 → (∀ x1_95, x1_95 = nI i + 1 → wL_holds_277 post f1 f2 f3 f4 f5 f6 f7 a1 a2 a3 a4 a5 a6 a7 a8 a9 a10 a11 a12 a13 a14 a15 a16 a17 a18 a19 a20 a21 a22 (m + 1) x1_95)) ∧ (¬ v ≤ 4 → post 0 (f1, f2, f3, f4, f5, f6, f7, a1, a2, a3, a4, a5, a6, a7, a8, a9, a10, a11, a12, a13, a14, a15, a16, a17, a18, a19, a20, a21, a22)))) (f1, f2, f3, f4, f5, f6, f7, a1, a2, a3, a4, a5, a6, a7, a8, a9, a10, a11, a12, a13, a14, a15, a16, a17, a18, a19, a20, a21, a22) (nI i) := two _ (nx _ (by decide)) (fun c hc => nx _ (nI_le (b := 4) (by omega) (by omega)))
      refine two _ (br_f (by decide) nd) (fun c hc => br_f ?_ nd)
      intro z
      have h0 := nI_pos' (n := c) (by omega)
      exact absurd (Int32.lt_of_le_of_lt h0 z) (by decide)
  exact ⟨4, key 3 0 (by omega)⟩
theorem tk_holds {post : Int32 → St1 → Prop} {e q r : Nat} (h : tk_I e q r (f1, f2, f3, f4, f5, f6, f7, a1, a2, a3, a4, a5, a6, a7, a8, a9, a10, a11, a12, a13, a14, a15, a16, a17, a18, a19, a20, a21, a22)) (hq : q ≤ e) (he : e < 2 ^ 30) (H : post 1 (f1, f2, f3, f4, f5, f6, f7, a1, a2, a3, a4, a5, a6, a7, a8, a9, a10, a11, a12, a13, a14, a15, a16, a17, a18, a19, a20, a21, a22)) : wpL_holds post (f1, f2, f3, f4, f5, f6, f7, a1, a2, a3, a4, a5, a6, a7, a8, a9, a10, a11, a12, a13, a14, a15, a16, a17, a18, a19, a20, a21, a22) := by
  obtain ⟨hC, hP, hQ, hD, hM, hL, h5, h6⟩ := h
  have key : ∀ m p, p + m = 6 → wL_holds_2 post (m + 1) (nI p) f1 f2 f3 f4 f5 f6 f7 a1 a2 a3 a4 a5 a6 a7 a8 a9 a10 a11 a12 a13 a14 a15 a16 a17 a18 a19 a20 a21 a22 := by
    intro m
    induction m with
    | zero =>
      intro p hp
      exact pk_le 6 p (fun _ => tk_h277 hD h5 h6 hq he H) (fun z => absurd z (by omega))
    | succ m ih =>
      intro p hp
      refine pk_le 6 p (fun z => absurd z (by omega)) (fun _ => tk_state (by omega) (tk_parent (by omega) (br_c (fun z => ?_) (fun z1 => br_c (fun z => ?_) (fun z2 => ?_)))))
      · exact tk_h35 (x4 := 1) (by omega) hP hD (fun y => absurd y (by decide)) (ih (p + 1) (by omega))
      · exact tk_h35 (x4 := 1) (by omega) hP hD (fun y => absurd y (by decide)) (ih (p + 1) (by omega))
      · exact tk_h35 (x4 := 0) (by omega) hP hD (fun _ y => y.elim z1 z2) (ih (p + 1) (by omega))
  exact ⟨7, key 6 0 (by omega)⟩
end
end
section
/-- the least free process from m on, or -1 -/
def tk_free (a5 : Nat → Int32) (m : Nat) (v : Int32) : Prop := (v = -1 ∧ ∀ j, m ≤ j → j < 6 → a5 j ≠ 0) ∨ ∃ p, m ≤ p ∧ p < 6 ∧ v = nI p ∧ a5 p = 0 ∧ ∀ j, m ≤ j → j < p → a5 j ≠ 0
theorem tk_free_0 {a5 : Nat → Int32} {m : Nat} (hm : m < 6) (e : a5 m = 0) : tk_free a5 m (nI m) := Or.inr ⟨m, Nat.le_refl _, hm, rfl, e, fun j h1 h2 => absurd h1 (by omega)⟩
theorem tk_free_s {a5 : Nat → Int32} {m : Nat} {v : Int32} (h : tk_free a5 (m + 1) v) (e : a5 m ≠ 0) : tk_free a5 m v := by
  have ex : ∀ j, m ≤ j → (m + 1 ≤ j → a5 j ≠ 0) → a5 j ≠ 0 := fun j hj k => by
    by_cases z : j = m
    · rw [z]
      exact e
    · exact k (by omega)
  rcases h with ⟨h1, h2⟩ | ⟨p, h1, h2, h3, h4, h5⟩
  · exact Or.inl ⟨h1, fun j hj hj' => ex j hj (fun z => h2 j z hj')⟩
  · exact Or.inr ⟨p, by omega, h2, h3, h4, fun j hj hj' => ex j hj (fun z => h5 j z hj')⟩
theorem tk_free_no {a5 : Nat → Int32} {v : Int32} (h : tk_free a5 0 v) (hn : ∀ p, p < 6 → a5 p ≠ 0) : v = -1 := by
  rcases h with ⟨h1, _⟩ | ⟨p, _, h2, _, h4, _⟩
  · exact h1
  · exact absurd h4 (hn p h2)
theorem tk_free_at {a5 : Nat → Int32} {v : Int32} {p : Nat} (h : tk_free a5 0 v) (hp : p < 6) (h0 : a5 p = 0) (hm : ∀ j, j < p → a5 j ≠ 0) : v = nI p := by
  rcases h with ⟨_, h1⟩ | ⟨p', _, h2, h3, h4, h5⟩
  · exact absurd h0 (h1 p (by omega) hp)
  · have e : p' = p := by
      rcases Nat.lt_trichotomy p' p with z | z | z
      · exact absurd h4 (hm p' z)
      · exact z
      · exact absurd h0 (h5 p (by omega) z)
    rw [h3, e]
def tk_dn : Nat → Int32
  | 0 => -1
  | m + 1 => nI m
theorem tk_dn_e (m : Nat) : nI m + (-1) = tk_dn m := by
  cases m with
  | zero => decide
  | succ m => exact pk_m1 m
section
variable {f1 f2 f3 f4 : Int32} {f5 : Int64} {f6 f7 : Int32} {a1 a2 a3 a4 a5 a6 a7 a8 a9 a10 a11 a12 a13 a14 a15 a16 a17 a18 a19 a20 a21 a22 : Nat → Int32}
theorem tk_I_R {e q r : Nat} {w : Nat → Nat → Int32} {h3 : Int32} {b16 b17 b18 b19 b20 b21 : Nat → Int32} (h : tk_I e q r (f1, f2, f3, f4, f5, f6, f7, a1, a2, a3, a4, a5, a6, a7, a8, a9, a10, a11, a12, a13, a14, a15, a16, a17, a18, a19, a20, a21, a22)) (hR : tk_R a16 w h3 b16 b17 b19 b20 b21) : tk_I e q r (f1, f2, h3, f4, f5, f6, f7, a1, a2, a3, a4, a5, a6, a7, a8, a9, a10, a11, a12, a13, a14, a15, b16, b17, b18, b19, b20, b21, a22) := by
  obtain ⟨hC, hP, hQ, hD, hM, hL, h5, h6⟩ := h
  exact ⟨hC, hP, hQ, hD, hR.1.1, fun c hc hn k hk => ⟨(hL c hc hn k hk).1, hR.2 _ (by omega) (hL c hc hn k hk).2⟩, h5, h6⟩
theorem tk_I_M {e q r : Nat} (h : tk_I e q r (f1, f2, f3, f4, f5, f6, f7, a1, a2, a3, a4, a5, a6, a7, a8, a9, a10, a11, a12, a13, a14, a15, a16, a17, a18, a19, a20, a21, a22)) : tk_M f3 a16 a17 a20 := by
  obtain ⟨hC, hP, hQ, hD, hM, hL, h5, h6⟩ := h
  exact hM
theorem tk_l57 {post : Int32 → Prop} {L : Nat} {xs : Nat → Int32} {J : tk_J} {x2 x3 x4 x5 x6 : Int32} {x7 : Int64} {kc ks : Nat} (H : ∀ n v, tk_free a5 0 v → wL_law_57 post L xs J x2 x3 x4 x5 x6 x7 kc ks f1 f2 f3 f4 f5 f6 f7 a1 a2 a3 a4 a5 a6 a7 a8 a9 a10 a11 a12 a13 a14 a15 a16 a17 a18 a19 a20 a21 a22 (n + 1) v (-1)) :
    ∃ n, wL_law_57 post L xs J x2 x3 x4 x5 x6 x7 kc ks f1 f2 f3 f4 f5 f6 f7 a1 a2 a3 a4 a5 a6 a7 a8 a9 a10 a11 a12 a13 a14 a15 a16 a17 a18 a19 a20 a21 a22 n (-1) 5 := by
  have key : ∀ m, m ≤ 6 → ∀ v, tk_free a5 m v → wL_law_57 post L xs J x2 x3 x4 x5 x6 x7 kc ks f1 f2 f3 f4 f5 f6 f7 a1 a2 a3 a4 a5 a6 a7 a8 a9 a10 a11 a12 a13 a14 a15 a16 a17 a18 a19 a20 a21 a22 (m + 1) v (tk_dn m) := by
    intro m
    induction m with
    | zero =>
      intro _ v hv
      exact H 0 v hv
    | succ m ih =>
      intro hm v hv
      exact br_f (nI_pos (by omega)) (tk_state (by omega) (br_c (fun z => nm_r (tk_dn_e m) (ih (by omega) _ (tk_free_0 (by omega) z))) (fun z => nm_r (tk_dn_e m) (ih (by omega) v (tk_free_s hv z)))))
  exact ⟨7, key 6 (by omega) (-1) (Or.inl ⟨rfl, fun j h1 h2 => absurd h1 (by omega)⟩)⟩
theorem tk_l690 {post : Int32 → Prop} {L : Nat} {xs : Nat → Int32} {J : tk_J} {x2 : Int32} {kc ks : Nat} (H : ∀ n v, tk_free a5 0 v → wL_law_690 post L xs J x2 kc ks f1 f2 f3 f4 f5 f6 f7 a1 a2 a3 a4 a5 a6 a7 a8 a9 a10 a11 a12 a13 a14 a15 a16 a17 a18 a19 a20 a21 a22 (n + 1) v (-1)) :
    ∃ n, wL_law_690 post L xs J x2 kc ks f1 f2 f3 f4 f5 f6 f7 a1 a2 a3 a4 a5 a6 a7 a8 a9 a10 a11 a12 a13 a14 a15 a16 a17 a18 a19 a20 a21 a22 n (-1) 5 := by
  have key : ∀ m, m ≤ 6 → ∀ v, tk_free a5 m v → wL_law_690 post L xs J x2 kc ks f1 f2 f3 f4 f5 f6 f7 a1 a2 a3 a4 a5 a6 a7 a8 a9 a10 a11 a12 a13 a14 a15 a16 a17 a18 a19 a20 a21 a22 (m + 1) v (tk_dn m) := by
    intro m
    induction m with
    | zero =>
      intro _ v hv
      exact H 0 v hv
    | succ m ih =>
      intro hm v hv
      exact br_f (nI_pos (by omega)) (tk_state (by omega) (br_c (fun z => nm_r (tk_dn_e m) (ih (by omega) _ (tk_free_0 (by omega) z))) (fun z => nm_r (tk_dn_e m) (ih (by omega) v (tk_free_s hv z)))))
  exact ⟨7, key 6 (by omega) (-1) (Or.inl ⟨rfl, fun j h1 h2 => absurd h1 (by omega)⟩)⟩
/-! the end of a round of the law -/
theorem tk_l637 {post : Int32 → Prop} {L : Nat} {xs : Nat → Int32} {J : tk_J} {i e q kc ks : Nat} {x6 : Int32} {x7 : Int64} {w : Nat → Nat → Int32} (h : tk_I e q 6 (f1, f2, f3, f4, f5, f6, f7, a1, a2, a3, a4, a5, a6, a7, a8, a9, a10, a11, a12, a13, a14, a15, a16, a17, a18, a19, a20, a21, a22)) (hq : q ≤ e) (he : e < 2 ^ 30) (hN : tk_N f3 a16 a17 a19 a20 a21 w)
    (h7 : x7 = tk_sum f5 f6 a5 a6 a7 a8 a9 a12 a14 a15 a22 w) (H : ∀ (g1 g2 g3 g4 : Int32) (g5 : Int64) (g6 g7 : Int32) (b1 b2 b3 b4 b5 b6 b7 b8 b9 b10 b11 b12 b13 b14 b15 b16 b17 b18 b19 b20 b21 b22 : Nat → Int32), tk_I e q 6 (g1, g2, g3, g4, g5, g6, g7, b1, b2, b3, b4, b5, b6, b7, b8, b9, b10, b11, b12, b13, b14, b15, b16, b17, b18, b19, b20, b21, b22) → J (nI (i + 5)) g1 g2 g3 g4 g5 g6 g7 b1 b2 b3 b4 b5 b6 b7 b8 b9 b10 b11 b12 b13 b14 b15 b16 b17 b18 b19 b20 b21 b22) : wL_law_637 post L xs J (nI i) x6 x7 kc ks f1 f2 f3 f4 f5 f6 f7 a1 a2 a3 a4 a5 a6 a7 a8 a9 a10 a11 a12 a13 a14 a15 a16 a17 a18 a19 a20 a21 a22 := by
  refine tk_sumL hN (fun h3 b16 b17 b18 b19 b20 b21 hR => br_t h7.symm ?_)
  refine tk_holds (tk_I_R h hR) hq he (br_f (by decide) ⟨by decide, ?_⟩)
  obtain ⟨m, hm, em⟩ := pk_andE x6 (m := 255) 8 (by decide)
  have er : (x6 &&& 255) - (x6 &&& 255) / 3 * 3 = nI (m % 3) := by
    rw [em]
    exact pk_rem (d := 3) (by omega) (by omega) (by omega)
  rw [er]
  have hI := @tk_I_R f1 f2 f3 f4 f5 f6 (nI (m % 3)) a1 a2 a3 a4 a5 a6 a7 a8 a9 a10 a11 a12 a13 a14 a15 a16 a17 a18 a19 a20 a21 a22 e q 6 w h3 b16 b17 b18 b19 b20 b21 h hR
  exact br_f (nI_pos (by omega)) (br_t (nI_le (b := 2) (by omega) (by omega)) (br_f (by decide) (nm_r (nI_add i 5) (H _ _ _ _ _ _ _ _ _ _ _ _ _ _ _ _ _ _ _ _ _ _ _ _ _ _ _ _ _ hI))))
theorem tk_l309 {post : Int32 → Prop} {L : Nat} {xs : Nat → Int32} {J : tk_J} {i e q kc ks : Nat} {x6 : Int32} (h : tk_I e q 6 (f1, f2, f3, f4, f5, f6, f7, a1, a2, a3, a4, a5, a6, a7, a8, a9, a10, a11, a12, a13, a14, a15, a16, a17, a18, a19, a20, a21, a22)) (hq : q ≤ e) (he : e < 2 ^ 30)
    (H : ∀ (g1 g2 g3 g4 : Int32) (g5 : Int64) (g6 g7 : Int32) (b1 b2 b3 b4 b5 b6 b7 b8 b9 b10 b11 b12 b13 b14 b15 b16 b17 b18 b19 b20 b21 b22 : Nat → Int32), tk_I e q 6 (g1, g2, g3, g4, g5, g6, g7, b1, b2, b3, b4, b5, b6, b7, b8, b9, b10, b11, b12, b13, b14, b15, b16, b17, b18, b19, b20, b21, b22) → J (nI (i + 5)) g1 g2 g3 g4 g5 g6 g7 b1 b2 b3 b4 b5 b6 b7 b8 b9 b10 b11 b12 b13 b14 b15 b16 b17 b18 b19 b20 b21 b22) : wL_law_309 post L xs J (nI i) x6 kc ks f1 f2 f3 f4 f5 f6 f7 a1 a2 a3 a4 a5 a6 a7 a8 a9 a10 a11 a12 a13 a14 a15 a16 a17 a18 a19 a20 a21 a22 :=
  tk_sumL (tk_N_of (tk_I_M h)) (fun h3 b16 b17 b18 b19 b20 b21 hR => tk_l637 (tk_I_R h hR) hq he hR.1 rfl H)
theorem tk_l568 {post : Int32 → Prop} {L : Nat} {xs : Nat → Int32} {J : tk_J} {i e q kc ks : Nat} {x6 : Int32} (h : tk_I e q 6 (f1, f2, f3, f4, f5, f6, f7, a1, a2, a3, a4, a5, a6, a7, a8, a9, a10, a11, a12, a13, a14, a15, a16, a17, a18, a19, a20, a21, a22)) (hq : q ≤ e) (he : e < 2 ^ 30)
    (H : ∀ (g1 g2 g3 g4 : Int32) (g5 : Int64) (g6 g7 : Int32) (b1 b2 b3 b4 b5 b6 b7 b8 b9 b10 b11 b12 b13 b14 b15 b16 b17 b18 b19 b20 b21 b22 : Nat → Int32), tk_I e q 6 (g1, g2, g3, g4, g5, g6, g7, b1, b2, b3, b4, b5, b6, b7, b8, b9, b10, b11, b12, b13, b14, b15, b16, b17, b18, b19, b20, b21, b22) → J (nI (i + 5)) g1 g2 g3 g4 g5 g6 g7 b1 b2 b3 b4 b5 b6 b7 b8 b9 b10 b11 b12 b13 b14 b15 b16 b17 b18 b19 b20 b21 b22) : wL_law_568 post L xs J (nI i) x6 kc ks f1 f2 f3 f4 f5 f6 f7 a1 a2 a3 a4 a5 a6 a7 a8 a9 a10 a11 a12 a13 a14 a15 a16 a17 a18 a19 a20 a21 a22 :=
  tk_sumL (tk_N_of (tk_I_M h)) (fun h3 b16 b17 b18 b19 b20 b21 hR => tk_l637 (tk_I_R h hR) hq he hR.1 rfl H)
/-! code -/
def tk_cv (a b : Int32) : Prop := ¬ a < 0 ∧ ¬ 63 < a ∧ ¬ b < 0 ∧ ¬ 511 < b ∧ (b &&& 31) ≤ 24
theorem tk_code {post : Int32 → St1 → Prop} {a b c : Int32} (hC : tk_C a2 a3) (H0 : ¬ tk_cv a b → post 0 (f1, f2, f3, f4, f5, f6, f7, a1, a2, a3, a4, a5, a6, a7, a8, a9, a10, a11, a12, a13, a14, a15, a16, a17, a18, a19, a20, a21, a22)) (H1 : tk_cv a b → ∀ b1 b2 b3 b4, tk_C b2 b3 → post 1 (f1, f2, f3, f4, f5, f6, f7, b1, b2, b3, b4, a5, a6, a7, a8, a9, a10, a11, a12, a13, a14, a15, a16, a17, a18, a19, a20, a21, a22)) : wpX_code post (f1, f2, f3, f4, f5, f6, f7, a1, a2, a3, a4, a5, a6, a7, a8, a9, a10, a11, a12, a13, a14, a15, a16, a17, a18, a19, a20, a21, a22) a b c := by
  refine br_c (fun z => H0 (fun k => k.1 z)) (fun z1 => br_c (fun z => H0 (fun k => k.2.1 z)) (fun z2 => br_c (fun z => H0 (fun k => k.2.2.1 z)) (fun z3 => br_c (fun z => H0 (fun k => k.2.2.2.1 z)) (fun z4 => br_c (fun z5 => ?_) (fun z => H0 (fun k => z k.2.2.2.2))))))
  obtain ⟨j, hj, ej⟩ := nI_of2 (M := 63) (n := 63) (by decide) z1 (Int32.not_lt.mp z2)
  obtain ⟨m1, hm1, em1⟩ := pk_andE (b >>> ((5 : Int32) &&& 31)) (m := 3) 2 (by decide)
  obtain ⟨m2, hm2, em2⟩ := pk_andE (b >>> ((7 : Int32) &&& 31)) (m := 3) 2 (by decide)
  refine tk_st j _ ej (by omega) rfl (tk_st j (nI m1) ej (by omega) (by rw [em1, tk_b8 _ (by omega)]) (tk_st j (nI m2) ej (by omega) (by rw [em2, tk_b8 _ (by omega)]) (tk_st j _ ej (by omega) rfl (H1 ⟨z1, z2, z3, z4, z5⟩ _ _ _ _ (fun k hk => ?_)))))
  by_cases e : k = j
  · rw [e, pk_us, pk_us]
    exact ⟨⟨m1, by omega, rfl⟩, ⟨m2, by omega, rfl⟩⟩
  · rw [pk_un e, pk_un e]
    exact hC k hk
theorem tk_number {post : Int32 → Prop} {a b : Int32} (H : ∀ v, post v) : wpL_number post () a b := by
  have h23 : wL_number_23 post a b := br_c (fun _ => H _) (fun _ => br_c (fun _ => H _) (fun _ => br_c (fun _ => ⟨by decide, H _⟩) (fun _ => ⟨by decide, H _⟩)))
  exact br_c (fun _ => h23) (fun _ => br_c (fun _ => h23) (fun _ => ⟨by decide, H _⟩))
/-! spawn -/
theorem tk_l206 {post : Int32 → Prop} {L : Nat} {xs : Nat → Int32} {J : tk_J} {i e q kc ks : Nat} {x4 x5 x6 v z0 : Int32} (h : tk_I e q 6 (f1, f2, f3, f4, f5, f6, f7, a1, a2, a3, a4, a5, a6, a7, a8, a9, a10, a11, a12, a13, a14, a15, a16, a17, a18, a19, a20, a21, a22)) (hq : q ≤ e) (he : e < 2 ^ 30) (hv : tk_free a5 0 v)
    (H : ∀ (g1 g2 g3 g4 : Int32) (g5 : Int64) (g6 g7 : Int32) (b1 b2 b3 b4 b5 b6 b7 b8 b9 b10 b11 b12 b13 b14 b15 b16 b17 b18 b19 b20 b21 b22 : Nat → Int32), tk_I e q 6 (g1, g2, g3, g4, g5, g6, g7, b1, b2, b3, b4, b5, b6, b7, b8, b9, b10, b11, b12, b13, b14, b15, b16, b17, b18, b19, b20, b21, b22) → J (nI (i + 5)) g1 g2 g3 g4 g5 g6 g7 b1 b2 b3 b4 b5 b6 b7 b8 b9 b10 b11 b12 b13 b14 b15 b16 b17 b18 b19 b20 b21 b22) : wL_law_206 post L xs J (nI i) x4 x5 x6 v z0 kc ks f1 f2 f3 f4 f5 f6 f7 a1 a2 a3 a4 a5 a6 a7 a8 a9 a10 a11 a12 a13 a14 a15 a16 a17 a18 a19 a20 a21 a22 := by
  refine tk_spawn h (fun hall => ?_) (fun p g1 g2 b8 b10 hp h0 hm hI e0 e1 => ?_)
  · have e := tk_free_no hv hall
    subst e
    exact br_f (by decide) (br_t rfl (br_t (by decide) (tk_l309 h hq he H)))
  · have e := tk_free_at hv hp h0 hm
    subst e
    obtain ⟨hC, hP, hQ, hD, hM, hL, h5, h6⟩ := h
    have hna : ¬ tk_al a5 p := fun ha => tk_al0 ha h0
    have hal : upd a5 p 1 p = 1 ∨ upd a5 p 1 p = 2 := Or.inl pk_us
    obtain ⟨m1, hm1, em1⟩ := pk_andE x5 (m := 31) 5 (by decide)
    obtain ⟨m2, hm2, em2⟩ := pk_andE x5 (m := 3) 2 (by decide)
    refine br_t (nI_pos' (by omega)) (br_t rfl (br_f (nI_pos (by omega)) (tk_state hp (br_t pk_us (tk_parent hp (br_t ?_ (tk_reg (r := 0) hp (by omega) (br_t ?_ (tk_reg (r := 1) hp (by omega) (br_t ?_ ?_)))))))))) 
    · unfold tk_vspot
      rw [if_neg (by rw [pk_us]; decide), pk_us]
    · unfold tk_vreg
      rw [if_pos hal]
      exact e0
    · unfold tk_vreg
      rw [if_pos hal]
      exact e1
    · rw [em1]
      refine tk_word (z := a16) hp hm1 ⟨tk_N_of hM, fun _ _ y => y⟩ (fun h3 c16 c17 c18 c19 c20 c21 hR => br_t ?_ ?_)
      · unfold tk_vword
        rw [if_pos hal]
        exact tk_W0 (hL p hp hna (m1 / 8) (by omega)).2
      · rw [em2]
        refine tk_des hp hm2 (br_t ?_ (tk_l309 (tk_I_R hI hR) hq he H))
        unfold tk_vreg
        rw [if_pos hal]
        exact (hL p hp hna m2 (by omega)).1
theorem tk_l183 {post : Int32 → Prop} {L : Nat} {xs : Nat → Int32} {J : tk_J} {i e q kc ks : Nat} {x3 x4 x5 x6 v : Int32} (h : tk_I e q 6 (f1, f2, f3, f4, f5, f6, f7, a1, a2, a3, a4, a5, a6, a7, a8, a9, a10, a11, a12, a13, a14, a15, a16, a17, a18, a19, a20, a21, a22)) (hq : q ≤ e) (he : e < 2 ^ 30) (hv : tk_free a5 0 v) (hi : i < L) (hL : L < 2 ^ 31)
    (H : ∀ (g1 g2 g3 g4 : Int32) (g5 : Int64) (g6 g7 : Int32) (b1 b2 b3 b4 b5 b6 b7 b8 b9 b10 b11 b12 b13 b14 b15 b16 b17 b18 b19 b20 b21 b22 : Nat → Int32), tk_I e q 6 (g1, g2, g3, g4, g5, g6, g7, b1, b2, b3, b4, b5, b6, b7, b8, b9, b10, b11, b12, b13, b14, b15, b16, b17, b18, b19, b20, b21, b22) → J (nI (i + 5)) g1 g2 g3 g4 g5 g6 g7 b1 b2 b3 b4 b5 b6 b7 b8 b9 b10 b11 b12 b13 b14 b15 b16 b17 b18 b19 b20 b21 b22) : wL_law_183 post L xs J (nI i) x3 x4 x5 x6 v kc ks f1 f2 f3 f4 f5 f6 f7 a1 a2 a3 a4 a5 a6 a7 a8 a9 a10 a11 a12 a13 a14 a15 a16 a17 a18 a19 a20 a21 a22 :=
  ⟨pk_in i L hi, br_c (fun _ => tk_l206 h hq he hv H) (fun _ => ⟨by decide, tk_l206 h hq he hv H⟩)⟩
end
end
section
section
variable {f1 f2 f3 f4 : Int32} {f5 : Int64} {f6 f7 : Int32} {a1 a2 a3 a4 a5 a6 a7 a8 a9 a10 a11 a12 a13 a14 a15 a16 a17 a18 a19 a20 a21 a22 : Nat → Int32}
/-! kill -/
theorem tk_l436 {post : Int32 → Prop} {L : Nat} {xs : Nat → Int32} {J : tk_J} {i e q kc ks : Nat} {x3 x6 x12 : Int32} (h : tk_I e q 6 (f1, f2, f3, f4, f5, f6, f7, a1, a2, a3, a4, a5, a6, a7, a8, a9, a10, a11, a12, a13, a14, a15, a16, a17, a18, a19, a20, a21, a22)) (hq : q ≤ e) (he : e < 2 ^ 30) (hx : x12 ≠ 0 → ∀ c, c < 6 → tk_vspot a5 a7 c ≠ x3)
    (H : ∀ (g1 g2 g3 g4 : Int32) (g5 : Int64) (g6 g7 : Int32) (b1 b2 b3 b4 b5 b6 b7 b8 b9 b10 b11 b12 b13 b14 b15 b16 b17 b18 b19 b20 b21 b22 : Nat → Int32), tk_I e q 6 (g1, g2, g3, g4, g5, g6, g7, b1, b2, b3, b4, b5, b6, b7, b8, b9, b10, b11, b12, b13, b14, b15, b16, b17, b18, b19, b20, b21, b22) → J (nI (i + 5)) g1 g2 g3 g4 g5 g6 g7 b1 b2 b3 b4 b5 b6 b7 b8 b9 b10 b11 b12 b13 b14 b15 b16 b17 b18 b19 b20 b21 b22) : ∃ n, wL_law_436 post L xs J (nI i) x3 x6 x12 kc ks f1 f2 f3 f4 f5 f6 f7 a1 a2 a3 a4 a5 a6 a7 a8 a9 a10 a11 a12 a13 a14 a15 a16 a17 a18 a19 a20 a21 a22 n 0 :=
  pk_loop (σ := Unit) (fun n c _ => wL_law_436 post L xs J (nI i) x3 x6 x12 kc ks f1 f2 f3 f4 f5 f6 f7 a1 a2 a3 a4 a5 a6 a7 a8 a9 a10 a11 a12 a13 a14 a15 a16 a17 a18 a19 a20 a21 a22 n (nI c)) (fun _ _ => True) 6 0 () (by omega) trivial
    (fun n _ _ => pk_le 6 6 (fun _ => tk_sumL (tk_N_of (tk_I_M h)) (fun h3 b16 b17 b18 b19 b20 b21 hR => tk_l637 (tk_I_R h hR) hq he hR.1 rfl H)) (fun z => absurd z (by omega)))
    (fun n c _ hc _ hw => pk_le 6 c (fun z => absurd z (by omega)) (fun _ => br_c (fun _ => nm_r (nI_1 c) (hw () trivial)) (fun z => tk_parent hc (br_f (hx z c hc) (nm_r (nI_1 c) (hw () trivial))))))
theorem tk_l357 {post : Int32 → Prop} {L : Nat} {xs : Nat → Int32} {J : tk_J} {kc ks : Nat} {x2 x3 x4 x5 x6 x12 z0 : Int32} {x7 : Int64} (h1 : wL_law_377 post L xs J x2 x3 x4 x6 x12 z0 kc ks f1 f2 f3 f4 f5 f6 f7 a1 a2 a3 a4 a5 a6 a7 a8 a9 a10 a11 a12 a13 a14 a15 a16 a17 a18 a19 a20 a21 a22) (h2 : wL_law_637 post L xs J x2 x6 x7 kc ks f1 f2 f3 f4 f5 f6 f7 a1 a2 a3 a4 a5 a6 a7 a8 a9 a10 a11 a12 a13 a14 a15 a16 a17 a18 a19 a20 a21 a22) : wL_law_357 post L xs J x2 x3 x4 x5 x6 x7 x12 z0 kc ks f1 f2 f3 f4 f5 f6 f7 a1 a2 a3 a4 a5 a6 a7 a8 a9 a10 a11 a12 a13 a14 a15 a16 a17 a18 a19 a20 a21 a22 :=
  br_c (fun _ => h1) (fun _ => br_c (fun _ => br_t rfl h2) (fun _ => br_c (fun _ => br_t rfl h2) (fun _ => br_f (by decide) h1)))
/-- no live process at x3 -/
theorem tk_l377n {post : Int32 → Prop} {L : Nat} {xs : Nat → Int32} {J : tk_J} {i e q kc ks : Nat} {x3 x4 x6 x13 : Int32} (h : tk_I e q 6 (f1, f2, f3, f4, f5, f6, f7, a1, a2, a3, a4, a5, a6, a7, a8, a9, a10, a11, a12, a13, a14, a15, a16, a17, a18, a19, a20, a21, a22)) (hq : q ≤ e) (he : e < 2 ^ 30) (hn : ∀ f : Int32 → Prop, f 0 → wpX_isAlive f (f1, f2, f3, f4, f5, f6, f7, a1, a2, a3, a4, a5, a6, a7, a8, a9, a10, a11, a12, a13, a14, a15, a16, a17, a18, a19, a20, a21, a22) x3)
    (H : ∀ (g1 g2 g3 g4 : Int32) (g5 : Int64) (g6 g7 : Int32) (b1 b2 b3 b4 b5 b6 b7 b8 b9 b10 b11 b12 b13 b14 b15 b16 b17 b18 b19 b20 b21 b22 : Nat → Int32), tk_I e q 6 (g1, g2, g3, g4, g5, g6, g7, b1, b2, b3, b4, b5, b6, b7, b8, b9, b10, b11, b12, b13, b14, b15, b16, b17, b18, b19, b20, b21, b22) → J (nI (i + 5)) g1 g2 g3 g4 g5 g6 g7 b1 b2 b3 b4 b5 b6 b7 b8 b9 b10 b11 b12 b13 b14 b15 b16 b17 b18 b19 b20 b21 b22) : wL_law_377 post L xs J (nI i) x3 x4 x6 0 x13 kc ks f1 f2 f3 f4 f5 f6 f7 a1 a2 a3 a4 a5 a6 a7 a8 a9 a10 a11 a12 a13 a14 a15 a16 a17 a18 a19 a20 a21 a22 := by
  unfold wL_law_377 wpX_kill
  exact hn _ (br_t rfl (br_t rfl (br_t rfl (tk_l436 h hq he (fun z => absurd rfl z) H))))
theorem tk_l3 {post : Int32 → Prop} {L : Nat} {xs : Nat → Int32} {J : tk_J} {i e q kc ks : Nat} {x3 x4 x5 x6 : Int32} {x7 : Int64} (h : tk_I e q 6 (f1, f2, f3, f4, f5, f6, f7, a1, a2, a3, a4, a5, a6, a7, a8, a9, a10, a11, a12, a13, a14, a15, a16, a17, a18, a19, a20, a21, a22)) (hq : q ≤ e) (he : e < 2 ^ 30) (h7 : wL_law_637 post L xs J (nI i) x6 x7 kc ks f1 f2 f3 f4 f5 f6 f7 a1 a2 a3 a4 a5 a6 a7 a8 a9 a10 a11 a12 a13 a14 a15 a16 a17 a18 a19 a20 a21 a22)
    (H : ∀ (g1 g2 g3 g4 : Int32) (g5 : Int64) (g6 g7 : Int32) (b1 b2 b3 b4 b5 b6 b7 b8 b9 b10 b11 b12 b13 b14 b15 b16 b17 b18 b19 b20 b21 b22 : Nat → Int32), tk_I e q 6 (g1, g2, g3, g4, g5, g6, g7, b1, b2, b3, b4, b5, b6, b7, b8, b9, b10, b11, b12, b13, b14, b15, b16, b17, b18, b19, b20, b21, b22) → J (nI (i + 5)) g1 g2 g3 g4 g5 g6 g7 b1 b2 b3 b4 b5 b6 b7 b8 b9 b10 b11 b12 b13 b14 b15 b16 b17 b18 b19 b20 b21 b22) :
    wpX_state (fun r => (((r = 1 → (wL_law_337 post L xs J (nI i) x3 x4 x5 x6 x7 kc ks f1 f2 f3 f4 f5 f6 f7 a1 a2 a3 a4 a5 a6 a7 a8 a9 a10 a11 a12 a13 a14 a15 a16 a17 a18 a19 a20 a21 a22)) ∧ (¬ r = 1 → (((r = 2 → (wL_law_337 post L xs J (nI i) x3 x4 x5 x6 x7 kc ks f1 f2 f3 f4 f5 f6 f7 a1 a2 a3 a4 a5 a6 a7 a8 a9 a10 a11 a12 a13 a14 a15 a16 a17 a18 a19 a20 a21 a22)) ∧ (¬ r = 2 → (wL_law_342 post L xs J (nI i) x3 x4 x5 x6 x7 0 kc ks f1 f2 f3 f4 f5 f6 f7 a1 a2 a3 a4 a5 a6 a7 a8 a9 a10 a11 a12 a13 a14 a15 a16 a17 a18 a19 a20 a21 a22)))))))) (f1, f2, f3, f4, f5, f6, f7, a1, a2, a3, a4, a5, a6, a7, a8, a9, a10, a11, a12, a13, a14, a15, a16, a17, a18, a19, a20, a21, a22) x3 := by
  have out : (x3 < 0 ∨ 6 ≤ x3) → wpX_state (fun r => (((r = 1 → (wL_law_337 post L xs J (nI i) x3 x4 x5 x6 x7 kc ks f1 f2 f3 f4 f5 f6 f7 a1 a2 a3 a4 a5 a6 a7 a8 a9 a10 a11 a12 a13 a14 a15 a16 a17 a18 a19 a20 a21 a22)) ∧ (¬ r = 1 → (((r = 2 → (wL_law_337 post L xs J (nI i) x3 x4 x5 x6 x7 kc ks f1 f2 f3 f4 f5 f6 f7 a1 a2 a3 a4 a5 a6 a7 a8 a9 a10 a11 a12 a13 a14 a15 a16 a17 a18 a19 a20 a21 a22)) ∧ (¬ r = 2 → (wL_law_342 post L xs J (nI i) x3 x4 x5 x6 x7 0 kc ks f1 f2 f3 f4 f5 f6 f7 a1 a2 a3 a4 a5 a6 a7 a8 a9 a10 a11 a12 a13 a14 a15 a16 a17 a18 a19 a20 a21 a22)))))))) (f1, f2, f3, f4, f5, f6, f7, a1, a2, a3, a4, a5, a6, a7, a8, a9, a10, a11, a12, a13, a14, a15, a16, a17, a18, a19, a20, a21, a22) x3 := fun ho => by
    refine tk_state_o ho (br_f (by decide) (br_f (by decide) (tk_parent_o ho (br_f (by decide) (tk_l357 (tk_l377n h hq he (fun f hf => by unfold wpX_isAlive; exact tk_isPo ho (br_t rfl hf)) H) h7)))))
  rcases pk_ix x3 (n := 6) (by omega) with z | z | ⟨p, hp, ep⟩
  · exact out (Or.inl z)
  · exact out (Or.inr z)
  · subst ep
    have h' := h
    obtain ⟨hC, hP, hQ, hD, hM, hL, h5, h6⟩ := h
    by_cases hal : tk_al a5 p
    · have ev : tk_vspot a5 a7 p = a7 p := if_neg (tk_al0 hal)
      have kill : ∀ x13 : Int32, ((x13 = 0 ∧ ∃ q, q < 6 ∧ a7 p = nI q) ∨ (x13 ≠ 0 ∧ a7 p = -1)) → wL_law_377 post L xs J (nI i) (nI p) x4 x6 1 x13 kc ks f1 f2 f3 f4 f5 f6 f7 a1 a2 a3 a4 a5 a6 a7 a8 a9 a10 a11 a12 a13 a14 a15 a16 a17 a18 a19 a20 a21 a22 := fun x13 hx => by
        unfold wL_law_377 wpX_kill
        refine tk_isAl hp (fun _ => br_f (by decide) (tk_end h' hp hal (fun g1 g2 b5 b7 b9 b10 b12 b14 b15 b16 b17 b20 hI hz hch _ => br_t rfl (br_f (by decide) ?_)))) (fun z => absurd hal z)
        have fin := fun (f : Int32 → Prop) => @tk_l436 g1 g2 f3 f4 f5 f6 f7 a1 a2 a3 a4 b5 (upd a6 p x4) b7 a8 b9 b10 a11 b12 a13 b14 b15 b16 b17 a18 a19 b20 a21 a22 post L xs J i e q kc ks (nI p) x6 1 hI hq he (fun _ c hc => by
          unfold tk_vspot
          by_cases y : b5 c = 0
          · rw [if_pos y]
            intro y2
            have := nI_pos (n := p) (by omega)
            rw [← y2] at this
            exact this (by decide)
          · rw [if_neg y]
            exact hch c hc y) H
        rcases hx with ⟨x0, q', hq', e'⟩ | ⟨x0, e'⟩
        · have b3 : b5 p = 3 := by
            rcases hz with ⟨y, _⟩ | ⟨_, y⟩
            · exact y
            · rw [e'] at y
              exact absurd y tk_m1
          refine br_t x0 (tk_state hp (br_t b3 (tk_spot hp (br_t ?_ (fin (fun _ => True))))))
          unfold tk_vspot
          rw [if_neg (by rw [b3]; decide), pk_us]
        · have b0 : b5 p = 0 := by
            rcases hz with ⟨_, q', _, y⟩ | ⟨y, _⟩
            · rw [e'] at y
              exact absurd y.symm tk_m1
            · exact y
          exact br_f x0 (tk_state hp (br_t b0 (fin (fun _ => True))))
      have h342 : wL_law_342 post L xs J (nI i) (nI p) x4 x5 x6 x7 1 kc ks f1 f2 f3 f4 f5 f6 f7 a1 a2 a3 a4 a5 a6 a7 a8 a9 a10 a11 a12 a13 a14 a15 a16 a17 a18 a19 a20 a21 a22 := by
        refine tk_parent hp ?_
        rw [ev]
        rcases (hP p hp).2.1 with y | ⟨q', hq', y⟩
        · exact br_f (by rw [y]; decide) (tk_l357 (kill 1 (Or.inr ⟨by decide, y⟩)) h7)
        · exact br_t (by rw [y]; exact nI_pos' (by omega)) (tk_l357 (kill 0 (Or.inl ⟨rfl, q', hq', y⟩)) h7)
      refine tk_state hp ?_
      rcases hal with y | y
      · exact br_t y h342
      · exact br_f (by rw [y]; decide) (br_t y h342)
    · have h377 : ∀ x13 : Int32, wL_law_377 post L xs J (nI i) (nI p) x4 x6 0 x13 kc ks f1 f2 f3 f4 f5 f6 f7 a1 a2 a3 a4 a5 a6 a7 a8 a9 a10 a11 a12 a13 a14 a15 a16 a17 a18 a19 a20 a21 a22 := fun x13 => tk_l377n h' hq he (fun f hf => tk_isAl hp (fun z => absurd z hal) (fun _ => hf)) H
      refine tk_state hp (br_f (fun z => hal (Or.inl z)) (br_f (fun z => hal (Or.inr z)) (tk_parent hp (br_c (fun _ => tk_l357 (h377 0) h7) (fun _ => tk_l357 (h377 1) h7)))))
/-! run -/
theorem tk_l508 {post : Int32 → Prop} {L : Nat} {xs : Nat → Int32} {J : tk_J} {i e e' q d m kc ks : Nat} {x6 : Int32} (h : tk_I e' q 6 (f1, f2, f3, f4, f5, f6, f7, a1, a2, a3, a4, a5, a6, a7, a8, a9, a10, a11, a12, a13, a14, a15, a16, a17, a18, a19, a20, a21, a22)) (hq : q ≤ e') (he : e' < 2 ^ 30) (hd : d ≤ m) (hm : m ≤ 80) (k1 : e ≤ e') (k2 : e' ≤ e + 3 * d) (hid : d < m → tk_idle (f1, f2, f3, f4, f5, f6, f7, a1, a2, a3, a4, a5, a6, a7, a8, a9, a10, a11, a12, a13, a14, a15, a16, a17, a18, a19, a20, a21, a22))
    (H : ∀ (g1 g2 g3 g4 : Int32) (g5 : Int64) (g6 g7 : Int32) (b1 b2 b3 b4 b5 b6 b7 b8 b9 b10 b11 b12 b13 b14 b15 b16 b17 b18 b19 b20 b21 b22 : Nat → Int32), tk_I e' q 6 (g1, g2, g3, g4, g5, g6, g7, b1, b2, b3, b4, b5, b6, b7, b8, b9, b10, b11, b12, b13, b14, b15, b16, b17, b18, b19, b20, b21, b22) → J (nI (i + 5)) g1 g2 g3 g4 g5 g6 g7 b1 b2 b3 b4 b5 b6 b7 b8 b9 b10 b11 b12 b13 b14 b15 b16 b17 b18 b19 b20 b21 b22) : wL_law_508 post L xs J (nI i) x6 (lN e) (nI d) (nI m) kc ks f1 f2 f3 f4 f5 f6 f7 a1 a2 a3 a4 a5 a6 a7 a8 a9 a10 a11 a12 a13 a14 a15 a16 a17 a18 a19 a20 a21 a22 := by
  have h' := h
  obtain ⟨hC, hP, hQ, hD, hM, hL, h5, h6⟩ := h
  refine tk_executed (nm_r (e' := lN (e' - e)) (by rw [h5, lN_sub k1]) (br_f (nI_pos (by omega)) (br_f (nI_nlt hd (by omega)) (br_f ?_ (br_f ?_ (pk_le m d (fun _ => tk_l568 h' hq he H) (fun z => tk_run_idle (hid z) (br_t rfl (tk_l568 h' hq he H)))))))))
  · intro z
    have z' : lN (e' - e) < lN 0 := z
    rw [lN_lt (by omega) (by omega)] at z'
    omega
  · intro z
    have e3 : 3 * (nI d).toInt64 = lN (3 * d) := by
      rw [nI_l (by omega)]
      exact lN_mul 3 d
    rw [e3, lN_lt (by omega) (by omega)] at z
    omega
theorem tk_l475 {post : Int32 → Prop} {L : Nat} {xs : Nat → Int32} {J : tk_J} {i e q kc ks : Nat} {x3 x6 : Int32} (h : tk_I e q 6 (f1, f2, f3, f4, f5, f6, f7, a1, a2, a3, a4, a5, a6, a7, a8, a9, a10, a11, a12, a13, a14, a15, a16, a17, a18, a19, a20, a21, a22)) (hq : q ≤ e) (he : e + 240 < 2 ^ 30)
    (H : ∀ e' q' (g1 g2 g3 g4 : Int32) (g5 : Int64) (g6 g7 : Int32) (b1 b2 b3 b4 b5 b6 b7 b8 b9 b10 b11 b12 b13 b14 b15 b16 b17 b18 b19 b20 b21 b22 : Nat → Int32), e' ≤ e + 240 → q' ≤ e' → tk_I e' q' 6 (g1, g2, g3, g4, g5, g6, g7, b1, b2, b3, b4, b5, b6, b7, b8, b9, b10, b11, b12, b13, b14, b15, b16, b17, b18, b19, b20, b21, b22) → J (nI (i + 5)) g1 g2 g3 g4 g5 g6 g7 b1 b2 b3 b4 b5 b6 b7 b8 b9 b10 b11 b12 b13 b14 b15 b16 b17 b18 b19 b20 b21 b22) : wL_law_475 post L xs J (nI i) x3 x6 kc ks f1 f2 f3 f4 f5 f6 f7 a1 a2 a3 a4 a5 a6 a7 a8 a9 a10 a11 a12 a13 a14 a15 a16 a17 a18 a19 a20 a21 a22 := by
  have h5 : f5 = lN e := by
    obtain ⟨hC, hP, hQ, hD, hM, hL, h5, h6⟩ := h
    exact h5
  refine tk_executed ?_
  rw [h5]
  rw [h5] at h
  refine br_c (fun z0 => br_c (fun z80 => ?_) (fun z80 => ?_)) (fun z0 => ?_)
  · have z0' : ¬ x3 < 0 := Int32.not_lt.mpr z0
    obtain ⟨m, hm, em⟩ := nI_of2 (M := 80) (n := 80) (by decide) z0' z80
    subst em
    refine tk_run h hm hq (by omega) ?_
    rintro d e' q' ⟨c1, c2, c3, c4, c5, c6, c7, k1, k2, k3, k4, k5, k6, k7, k8, k9, k10, k11, k12, k13, k14, k15, k16, k17, k18, k19, k20, k21, k22⟩ hd k1 k2 k3 hI hid
    exact br_t z0 (br_t z80 (tk_l508 hI k3 (by omega) hd hm k1 k2 hid (fun g1 g2 g3 g4 g5 g6 g7 b1 b2 b3 b4 b5 b6 b7 b8 b9 b10 b11 b12 b13 b14 b15 b16 b17 b18 b19 b20 b21 b22 hJ => H e' q' g1 g2 g3 g4 g5 g6 g7 b1 b2 b3 b4 b5 b6 b7 b8 b9 b10 b11 b12 b13 b14 b15 b16 b17 b18 b19 b20 b21 b22 (by omega) k3 hJ)))
  · refine tk_run (L := 80) h (by omega) hq (by omega) ?_
    rintro d e' q' ⟨c1, c2, c3, c4, c5, c6, c7, k1, k2, k3, k4, k5, k6, k7, k8, k9, k10, k11, k12, k13, k14, k15, k16, k17, k18, k19, k20, k21, k22⟩ hd k1 k2 k3 hI hid
    exact br_t z0 (br_f z80 (tk_l508 (m := 80) hI k3 (by omega) hd (by omega) k1 k2 hid (fun g1 g2 g3 g4 g5 g6 g7 b1 b2 b3 b4 b5 b6 b7 b8 b9 b10 b11 b12 b13 b14 b15 b16 b17 b18 b19 b20 b21 b22 hJ => H e' q' g1 g2 g3 g4 g5 g6 g7 b1 b2 b3 b4 b5 b6 b7 b8 b9 b10 b11 b12 b13 b14 b15 b16 b17 b18 b19 b20 b21 b22 (by omega) k3 hJ)))
  · refine tk_run (L := 0) h (by omega) hq (by omega) ?_
    rintro d e' q' ⟨c1, c2, c3, c4, c5, c6, c7, k1, k2, k3, k4, k5, k6, k7, k8, k9, k10, k11, k12, k13, k14, k15, k16, k17, k18, k19, k20, k21, k22⟩ hd k1 k2 k3 hI hid
    exact br_f z0 (tk_l508 (m := 0) hI k3 (by omega) hd (by omega) k1 k2 hid (fun g1 g2 g3 g4 g5 g6 g7 b1 b2 b3 b4 b5 b6 b7 b8 b9 b10 b11 b12 b13 b14 b15 b16 b17 b18 b19 b20 b21 b22 hJ => H e' q' g1 g2 g3 g4 g5 g6 g7 b1 b2 b3 b4 b5 b6 b7 b8 b9 b10 b11 b12 b13 b14 b15 b16 b17 b18 b19 b20 b21 b22 (by omega) k3 hJ))
/-! the switch -/
theorem tk_l57e {post : Int32 → Prop} {L : Nat} {xs : Nat → Int32} {J : tk_J} {i e q kc ks n : Nat} {x3 x4 x5 x6 v : Int32} {x7 : Int64} {w : Nat → Nat → Int32} (h : tk_I e q 6 (f1, f2, f3, f4, f5, f6, f7, a1, a2, a3, a4, a5, a6, a7, a8, a9, a10, a11, a12, a13, a14, a15, a16, a17, a18, a19, a20, a21, a22)) (hq : q ≤ e) (he : e + 240 < 2 ^ 30) (hv : tk_free a5 0 v) (hi : i < L) (hL : L < 2 ^ 31)
    (hN : tk_N f3 a16 a17 a19 a20 a21 w) (h7 : x7 = tk_sum f5 f6 a5 a6 a7 a8 a9 a12 a14 a15 a22 w)
    (H : ∀ e' q' (g1 g2 g3 g4 : Int32) (g5 : Int64) (g6 g7 : Int32) (b1 b2 b3 b4 b5 b6 b7 b8 b9 b10 b11 b12 b13 b14 b15 b16 b17 b18 b19 b20 b21 b22 : Nat → Int32), e' ≤ e + 240 → q' ≤ e' → tk_I e' q' 6 (g1, g2, g3, g4, g5, g6, g7, b1, b2, b3, b4, b5, b6, b7, b8, b9, b10, b11, b12, b13, b14, b15, b16, b17, b18, b19, b20, b21, b22) → J (nI (i + 5)) g1 g2 g3 g4 g5 g6 g7 b1 b2 b3 b4 b5 b6 b7 b8 b9 b10 b11 b12 b13 b14 b15 b16 b17 b18 b19 b20 b21 b22) : wL_law_57 post L xs J (nI i) x3 x4 x5 x6 x7 kc ks f1 f2 f3 f4 f5 f6 f7 a1 a2 a3 a4 a5 a6 a7 a8 a9 a10 a11 a12 a13 a14 a15 a16 a17 a18 a19 a20 a21 a22 (n + 1) v (-1) := by
  have H1 : ∀ (g1 g2 g3 g4 : Int32) (g5 : Int64) (g6 g7 : Int32) (b1 b2 b3 b4 b5 b6 b7 b8 b9 b10 b11 b12 b13 b14 b15 b16 b17 b18 b19 b20 b21 b22 : Nat → Int32), tk_I e q 6 (g1, g2, g3, g4, g5, g6, g7, b1, b2, b3, b4, b5, b6, b7, b8, b9, b10, b11, b12, b13, b14, b15, b16, b17, b18, b19, b20, b21, b22) → J (nI (i + 5)) g1 g2 g3 g4 g5 g6 g7 b1 b2 b3 b4 b5 b6 b7 b8 b9 b10 b11 b12 b13 b14 b15 b16 b17 b18 b19 b20 b21 b22 := fun g1 g2 g3 g4 g5 g6 g7 b1 b2 b3 b4 b5 b6 b7 b8 b9 b10 b11 b12 b13 b14 b15 b16 b17 b18 b19 b20 b21 b22 hJ => H e q g1 g2 g3 g4 g5 g6 g7 b1 b2 b3 b4 b5 b6 b7 b8 b9 b10 b11 b12 b13 b14 b15 b16 b17 b18 b19 b20 b21 b22 (by omega) hq hJ
  have he' : e < 2 ^ 30 := by omega
  have h' := h
  obtain ⟨hC, hP, hQ, hD, hM, hL', h5, h6⟩ := h
  have hcode : ∀ b1 b2 b3 b4, tk_C b2 b3 → wL_law_637 post L xs J (nI i) x6 x7 kc ks f1 f2 f3 f4 f5 f6 f7 b1 b2 b3 b4 a5 a6 a7 a8 a9 a10 a11 a12 a13 a14 a15 a16 a17 a18 a19 a20 a21 a22 := fun b1 b2 b3 b4 hC' => tk_l637 (w := w) ⟨hC', hP, hQ, hD, hM, hL', h5, h6⟩ hq he' hN h7 H1
  obtain ⟨j, hj, ej⟩ := pk_andE (xs i) (m := 15) 4 (by decide)
  refine br_t (by decide) ⟨pk_in i L hi, nm_r (e' := nI j) (by rw [nI_clamp (by omega), ej]) ?_⟩
  refine br_f (nI_pos (by omega)) (pk_lt 7 j (fun _ => ?_) (fun j7 => ?_))
  · obtain ⟨m1, hm1, em1⟩ := pk_andE x3 (m := 255) 8 (by decide)
    obtain ⟨m2, hm2, em2⟩ := pk_andE x6 (m := 255) 8 (by decide)
    obtain ⟨m3, hm3, em3⟩ := pk_andE x5 (m := 3) 2 (by decide)
    obtain ⟨m4, hm4, em4⟩ := pk_andE (x5 >>> ((2 : Int32) &&& 31)) (m := 3) 2 (by decide)
    have er1 : (x3 &&& 255) - (x3 &&& 255) / 25 * 25 = nI (m1 % 25) := by
      rw [em1]
      exact pk_rem (d := 25) (by omega) (by omega) (by omega)
    have er2 : (x6 &&& 255) - (x6 &&& 255) / 40 * 40 = nI (m2 % 40) := by
      rw [em2]
      exact pk_rem (d := 40) (by omega) (by omega) (by omega)
    have er3 : (nI (m1 % 25) + (32 * (x5 &&& 3))) + (128 * ((x5 >>> ((2 : Int32) &&& 31)) &&& 3)) = nI (m1 % 25 + 32 * m3 + 128 * m4) := by
      rw [em3, em4, show (32 : Int32) * nI m3 = nI (32 * m3) from pk_mul 32 m3, show (128 : Int32) * nI m4 = nI (128 * m4) from pk_mul 128 m4, nI_add, nI_add]
    refine ⟨by decide, nm_r er1 (tk_number (fun v' => ⟨by decide, ?_⟩))⟩
    rw [er2, er3]
    refine tk_code hC (fun hn => absurd ?_ hn) (fun _ b1 b2 b3 b4 hC' => br_f (by decide) (hcode b1 b2 b3 b4 hC'))
    refine ⟨nI_pos (by omega), nI_nlt (a := 63) (by omega) (by omega), nI_pos (by omega), nI_nlt (a := 511) (by omega) (by omega), ?_⟩
    rw [pk_andN (by omega) 5 (by decide)]
    exact nI_le (b := 24) (by omega) (by omega)
  · refine pk_eq j 0 (fun _ => ?_) (fun j0 => pk_eq j 1 (fun _ => tk_l183 h' hq he' hv hi hL H1) (fun j1 => pk_eq j 2 (fun _ => tk_l183 h' hq he' hv hi hL H1) (fun j2 => pk_eq j 3 (fun _ => ?_) (fun j3 => pk_eq j 4 (fun _ => tk_l475 h' hq he H) (fun j4 => pk_eq j 5 (fun _ => tk_l475 h' hq he H) (fun j5 => pk_eq j 6 (fun _ => tk_l475 h' hq he H) (fun j6 => pk_eq j 7 (fun _ => tk_l475 h' hq he H) (fun j7 => trivial))))))))
    · refine tk_code hC (fun hn => ?_) (fun hv b1 b2 b3 b4 hC' => ?_)
      · have h177 : wL_law_177 post L xs J (nI i) x6 x7 0 kc ks f1 f2 f3 f4 f5 f6 f7 a1 a2 a3 a4 a5 a6 a7 a8 a9 a10 a11 a12 a13 a14 a15 a16 a17 a18 a19 a20 a21 a22 := br_t rfl (hcode a1 a2 a3 a4 hC)
        exact br_c (fun _ => br_t rfl h177) (fun z1 => br_c (fun _ => br_t rfl h177) (fun z2 => br_f (by decide) (br_c (fun _ => br_t rfl h177) (fun z3 => br_c (fun _ => br_t rfl h177) (fun z4 => br_f (by decide) (br_c (fun _ => h177) (fun z5 => absurd ⟨z1, z2, z3, z4, Int32.not_lt.mp z5⟩ hn)))))))
      · exact br_f hv.1 (br_f hv.2.1 (br_f (by decide) (br_f hv.2.2.1 (br_f hv.2.2.2.1 (br_f (by decide) (br_f (Int32.not_lt.mpr hv.2.2.2.2) (br_t rfl (hcode b1 b2 b3 b4 hC'))))))))
    · exact tk_l3 h' hq he' (hcode a1 a2 a3 a4 hC) H1
end
end
section
section
variable {f1 f2 f3 f4 : Int32} {f5 : Int64} {f6 f7 : Int32} {a1 a2 a3 a4 a5 a6 a7 a8 a9 a10 a11 a12 a13 a14 a15 a16 a17 a18 a19 a20 a21 a22 : Nat → Int32}
theorem tk_l679 {post : Int32 → Prop} {L : Nat} {xs : Nat → Int32} {e q kc ks : Nat} (hpost : post 1) (hq : q ≤ e) (he : e < 2 ^ 30) : ∀ m k, k + m = 7 → ∀ (f1 f2 f3 f4 : Int32) (f5 : Int64) (f6 f7 : Int32) (a1 a2 a3 a4 a5 a6 a7 a8 a9 a10 a11 a12 a13 a14 a15 a16 a17 a18 a19 a20 a21 a22 : Nat → Int32), tk_I e q 6 (f1, f2, f3, f4, f5, f6, f7, a1, a2, a3, a4, a5, a6, a7, a8, a9, a10, a11, a12, a13, a14, a15, a16, a17, a18, a19, a20, a21, a22) → tk_cnt a5 0 6 ≤ 6 - k → wL_law_679 post L xs kc ks (m + 1) (nI k) f1 f2 f3 f4 f5 f6 f7 a1 a2 a3 a4 a5 a6 a7 a8 a9 a10 a11 a12 a13 a14 a15 a16 a17 a18 a19 a20 a21 a22 := by
  intro m
  induction m with
  | zero =>
    intro k hk f1 f2 f3 f4 f5 f6 f7 a1 a2 a3 a4 a5 a6 a7 a8 a9 a10 a11 a12 a13 a14 a15 a16 a17 a18 a19 a20 a21 a22 h hc
    refine pk_le 7 k (fun _ => ?_) (fun z => absurd z (by omega))
    refine tk_spawn h (fun _ => br_t rfl (tk_holds h hq he (br_f (by decide) hpost))) (fun p g1 g2 b8 b10 hp h0 _ _ _ _ => ?_)
    have := tk_cnt_pos hp h0
    exact absurd this (by omega)
  | succ m ih =>
    intro k hk f1 f2 f3 f4 f5 f6 f7 a1 a2 a3 a4 a5 a6 a7 a8 a9 a10 a11 a12 a13 a14 a15 a16 a17 a18 a19 a20 a21 a22 h hc
    refine pk_le 7 k (fun z => absurd z (by omega)) (fun _ => tk_l690 (fun n v hv => br_t (by decide) ?_))
    refine tk_spawn h (fun hall => ?_) (fun p g1 g2 b8 b10 hp h0 hm hI _ _ => ?_)
    · have e1 := tk_free_no hv hall
      subst e1
      refine br_f (by decide) (br_t rfl (nm_r (nI_1 k) (ih (k + 1) (by omega) f1 f2 f3 f4 f5 f6 f7 a1 a2 a3 a4 a5 a6 a7 a8 a9 a10 a11 a12 a13 a14 a15 a16 a17 a18 a19 a20 a21 a22 h ?_)))
      rw [tk_cnt_0 6 hall]
      omega
    · have e1 := tk_free_at hv hp h0 hm
      subst e1
      refine br_t (nI_pos' (by omega)) (br_t rfl (nm_r (nI_1 k) (ih (k + 1) (by omega) _ _ _ _ _ _ _ _ _ _ _ _ _ _ _ _ _ _ _ _ _ _ _ _ _ _ _ _ _ hI ?_)))
      have := tk_cnt_sub (a := a5) (v := 0) (w := 1) hp h0 (by decide)
      omega
theorem tk_lim {L i : Nat} (hL : L ≤ 260) (hi : i ≤ 1000) : (Int32.ofNat L) - 5 < nI i ↔ L < i + 5 := by
  have h := pk_sub_toInt (a := L) (b := 5) (by omega) (by omega)
  have h' : ((Int32.ofNat L) - 5).toInt = (L : Int) - 5 := h
  rw [Int32.lt_iff_toInt_lt, h', nI_toInt (by omega)]
  omega
theorem tk_l10 {post : Int32 → Prop} {L : Nat} {xs : Nat → Int32} {kc ks : Nat} (hL : L ≤ 260) (hpost : post 1) : ∀ m i, L < i + 5 + 5 * m → i ≤ 500 → ∀ e q (f1 f2 f3 f4 : Int32) (f5 : Int64) (f6 f7 : Int32) (a1 a2 a3 a4 a5 a6 a7 a8 a9 a10 a11 a12 a13 a14 a15 a16 a17 a18 a19 a20 a21 a22 : Nat → Int32), e ≤ 48 * i → q ≤ e → tk_I e q 6 (f1, f2, f3, f4, f5, f6, f7, a1, a2, a3, a4, a5, a6, a7, a8, a9, a10, a11, a12, a13, a14, a15, a16, a17, a18, a19, a20, a21, a22) → wL_law_10 post L xs kc ks (m + 1) (nI i) f1 f2 f3 f4 f5 f6 f7 a1 a2 a3 a4 a5 a6 a7 a8 a9 a10 a11 a12 a13 a14 a15 a16 a17 a18 a19 a20 a21 a22 := by
  intro m
  induction m with
  | zero =>
    intro i hi hi' e q f1 f2 f3 f4 f5 f6 f7 a1 a2 a3 a4 a5 a6 a7 a8 a9 a10 a11 a12 a13 a14 a15 a16 a17 a18 a19 a20 a21 a22 he hq h
    refine br_t ((tk_lim hL (by omega)).mpr (by omega)) ⟨8, tk_l679 hpost hq (by omega) 7 0 (by omega) f1 f2 f3 f4 f5 f6 f7 a1 a2 a3 a4 a5 a6 a7 a8 a9 a10 a11 a12 a13 a14 a15 a16 a17 a18 a19 a20 a21 a22 h ?_⟩
    exact tk_cnt_le a5 0 6
  | succ m ih =>
    intro i hi hi' e q f1 f2 f3 f4 f5 f6 f7 a1 a2 a3 a4 a5 a6 a7 a8 a9 a10 a11 a12 a13 a14 a15 a16 a17 a18 a19 a20 a21 a22 he hq h
    refine ek_if (tk_lim hL (by omega)) (fun z => ⟨8, tk_l679 hpost hq (by omega) 7 0 (by omega) f1 f2 f3 f4 f5 f6 f7 a1 a2 a3 a4 a5 a6 a7 a8 a9 a10 a11 a12 a13 a14 a15 a16 a17 a18 a19 a20 a21 a22 h (tk_cnt_le a5 0 6)⟩) (fun z => ?_)
    refine tk_ld (i + 1) (nI_add i 1) (by omega) rfl (tk_ld (i + 2) (nI_add i 2) (by omega) rfl (tk_ld (i + 3) (nI_add i 3) (by omega) rfl (tk_ld (i + 4) (nI_add i 4) (by omega) rfl ?_)))
    refine tk_sumL (tk_N_of (tk_I_M h)) (fun h3 b16 b17 b18 b19 b20 b21 hR => tk_l57 (fun n v hv => ?_))
    exact tk_l57e (tk_I_R h hR) hq (by omega) hv (by omega) (by omega) hR.1 rfl (fun e' q' g1 g2 g3 g4 g5 g6 g7 b1 b2 b3 b4 b5 b6 b7 b8 b9 b10 b11 b12 b13 b14 b15 b16 b17 b18 b19 b20 b21 b22 k1 k2 hJ => ih (i + 5) (by omega) (by omega) e' q' g1 g2 g3 g4 g5 g6 g7 b1 b2 b3 b4 b5 b6 b7 b8 b9 b10 b11 b12 b13 b14 b15 b16 b17 b18 b19 b20 b21 b22 (by omega) k2 hJ)
end
theorem tk_start {b7 : Nat → Int32} (h7 : ∀ j, j < 6 → b7 j = -1) : tk_I 0 0 6 (-1, -1, 0, -1, 0, 0, 2, (fun _ => 0), (fun _ => 0), (fun _ => 0), (fun _ => 0), (fun _ => 0), (fun _ => 0), b7, (fun _ => 0), (fun _ => 0), (fun _ => 0), (fun _ => 0), (fun _ => 0), (fun _ => 0), (fun _ => 0), (fun _ => 0), (fun _ => 0), (fun _ => 0), (fun _ => 0), (fun _ => 0), (fun _ => 0), (fun _ => 0), (fun _ => 0)) := by
  have z : ∀ n, 0 < n → n < 100 → tk_cnt (fun _ => 0) (nI n) 24 = 0 := fun n h1 h2 => tk_cnt_0 24 (fun x _ => (tk_ne0 h1).symm)
  refine ⟨fun i _ => ⟨⟨0, by omega, rfl⟩, ⟨0, by omega, rfl⟩⟩, fun p hp => ⟨⟨0, by omega, rfl⟩, Or.inl (h7 p hp), fun h => absurd rfl h, fun h => absurd (show (0 : Int32) = 3 from h) (by decide), fun h => absurd (show (0 : Int32) = 2 from h) (by decide)⟩,
    ⟨[], rfl, rfl, List.nodup_nil, fun x hx => absurd hx List.not_mem_nil⟩, ⟨fun x _ => ⟨0, by omega, rfl⟩, fun k hk => ⟨?_, ?_, ⟨0, by omega, rfl⟩, ⟨0, by omega, rfl⟩⟩⟩, ⟨⟨0, by omega, rfl⟩, fun x _ => Or.inl rfl, fun f hf => ?_, fun s hs => ?_⟩, fun _ _ _ _ _ => ⟨rfl, rfl⟩, rfl, rfl⟩
  · rw [z _ (by omega) (by omega)]
    rfl
  · rw [z _ (by omega) (by omega)]
    rfl
  · rw [z _ (by omega) (by omega)]
    rfl
  · rw [z _ (by omega) (by omega)]
    rfl
theorem i_vc (xs : Nat → Int32) (L : Nat) (hL : L ≤ 260) : wpL_law (fun r => r = 1) L xs := by
  refine ⟨22, 724, by decide, by decide, ?_⟩
  refine ⟨by decide, by decide, by decide, by decide, by decide, by decide, by decide, by decide, by decide, by decide, by decide, by decide, by decide, by decide, by decide, by decide, by decide, by decide, by decide, by decide, by decide, by decide, by decide, by decide, by decide, by decide, by decide, by decide, by decide, by decide, by decide, by decide, by decide, by decide, by decide, by decide, by decide, by decide, by decide, by decide, by decide, by decide, by decide, by decide, ?_⟩
  refine pk_loop (fun n i b => wX_init_199 _ 22 724 22 724 (-1) (-1) 0 (-1) 0 0 2 n (nI i) (fun _ => 0) (fun _ => 0) (fun _ => 0) (fun _ => 0) (fun _ => 0) (fun _ => 0) b (fun _ => 0) (fun _ => 0) (fun _ => 0) (fun _ => 0) (fun _ => 0) (fun _ => 0) (fun _ => 0) (fun _ => 0) (fun _ => 0) (fun _ => 0) (fun _ => 0) (fun _ => 0) (fun _ => 0) (fun _ => 0) (fun _ => 0)) (fun i b => ∀ j, j < i → b j = -1) 6 0 (fun _ => 0) (by omega) (fun j hj => absurd hj (by omega))
    (fun n b h => pk_le 6 6 (fun _ => ?_) (fun z => absurd z (by omega)))
    (fun n i b hi h hw => pk_le 6 i (fun z => absurd z (by omega)) (fun _ => tk_st i (-1) rfl hi rfl (nm_r (nI_1 i) (hw _ (fun j hj => ?_)))))
  · exact ⟨53, tk_l10 (post := fun r => r = 1) hL rfl 52 0 (by omega) (by omega) 0 0 _ _ _ _ _ _ _ _ _ _ _ _ _ _ _ _ _ _ _ _ _ _ _ _ _ _ _ _ _ (Nat.le_refl _) (Nat.le_refl _) (tk_start h)⟩
  · by_cases e : j = i
    · rw [e, pk_us]
    · rw [pk_un e]
      exact h j (by omega)
end
