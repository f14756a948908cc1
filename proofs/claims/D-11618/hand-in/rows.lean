section
/-! pure rows: places, counting, the picture -/
def ca_pl (r c : Nat) : Nat := r / 4 * 4 + c / 4
def ca_wi (r c : Nat) : Nat := r % 4 * 4 + c % 4
/-- how many of the first n places hold slot s -/
def ca_cn (f : Nat → Nat) (s : Nat) : Nat → Nat
  | 0 => 0
  | n + 1 => ca_cn f s n + (if f n = s then 1 else 0)
/-- the value of cell i of slot s -/
def ca_V (a4 a5 a6 : Nat → Int32) (s i : Nat) : Int32 := a4 (s * 16 + i) * a5 s + a6 s
/-- the sum of the first n stored cells of slot s -/
def ca_S (a4 : Nat → Int32) (s : Nat) : Nat → Int32
  | 0 => 0
  | n + 1 => ca_S a4 s n + a4 (s * 16 + n)
/-- the picture: f the present array's slots, g the version's first m slots, A and B their cells by row and column -/
def ca_K (v m : Nat) (f g : Nat → Nat) (A B : Nat → Nat → Int32) (a2 a3 a4 a5 a6 a7 a8 : Nat → Int32) : Prop :=
  (∀ k, k < 16 → f k < 80 ∧ a2 (64 + k) = nI (f k)) ∧
  (∀ k, k < m → g k < 80 ∧ a2 (v * 16 + k) = nI (g k)) ∧
  (∀ s, s < 80 → a3 s = nI (ca_cn f s 16 + ca_cn g s m)) ∧
  (∀ r c, r < 16 → c < 16 → ca_V a4 a5 a6 (f (ca_pl r c)) (ca_wi r c) = A r c) ∧
  (∀ r c, r < 16 → c < 16 → ca_pl r c < m → ca_V a4 a5 a6 (g (ca_pl r c)) (ca_wi r c) = B r c) ∧
  (∀ s, s < 80 → a7 s ≠ 0 → a8 s = ca_S a4 s 16)
theorem ca_pl_lt {r c : Nat} (hr : r < 16) (hc : c < 16) : ca_pl r c < 16 := by
  unfold ca_pl
  omega
theorem ca_wi_lt (r c : Nat) : ca_wi r c < 16 := by
  unfold ca_wi
  omega
theorem ca_rc {k i : Nat} (hk : k < 16) (hi : i < 16) : ca_pl (k / 4 * 4 + i / 4) (k % 4 * 4 + i % 4) = k ∧ ca_wi (k / 4 * 4 + i / 4) (k % 4 * 4 + i % 4) = i ∧ k / 4 * 4 + i / 4 < 16 ∧ k % 4 * 4 + i % 4 < 16 := by
  unfold ca_pl ca_wi
  omega
theorem ca_inj {r c r' c' : Nat} (hc : c < 16) (hc' : c' < 16) (h : ca_pl r c = ca_pl r' c') (h2 : ca_wi r c = ca_wi r' c') : r = r' ∧ c = c' := by
  unfold ca_pl at h
  unfold ca_wi at h2
  omega
theorem ca_cn0 {f : Nat → Nat} {s : Nat} : ∀ n, (∀ k, k < n → f k ≠ s) → ca_cn f s n = 0 := by
  intro n
  induction n with
  | zero => intro _; rfl
  | succ n ih =>
    intro h
    show ca_cn f s n + (if f n = s then 1 else 0) = 0
    rw [ih (fun k hk => h k (by omega)), if_neg (h n (by omega))]
theorem ca_cn0' {f : Nat → Nat} {s : Nat} : ∀ n, ca_cn f s n = 0 → ∀ k, k < n → f k ≠ s := by
  intro n
  induction n with
  | zero => intro _ k hk; omega
  | succ n ih =>
    intro h k hk e
    have h' : ca_cn f s n + (if f n = s then 1 else 0) = 0 := h
    by_cases ek : k = n
    · rw [← ek, if_pos e] at h'
      omega
    · exact ih (by omega) k (by omega) e
theorem ca_cn_le {f : Nat → Nat} {s : Nat} : ∀ n, ca_cn f s n ≤ n := by
  intro n
  induction n with
  | zero => exact Nat.le_refl 0
  | succ n ih =>
    show ca_cn f s n + (if f n = s then 1 else 0) ≤ n + 1
    split <;> omega
theorem ca_cn_congr {f f' : Nat → Nat} {s : Nat} : ∀ n, (∀ k, k < n → f k = f' k) → ca_cn f s n = ca_cn f' s n := by
  intro n
  induction n with
  | zero => intro _; rfl
  | succ n ih =>
    intro h
    show ca_cn f s n + (if f n = s then 1 else 0) = ca_cn f' s n + (if f' n = s then 1 else 0)
    rw [ih (fun k hk => h k (by omega)), h n (by omega)]
def ca_fu (f : Nat → Nat) (p d : Nat) : Nat → Nat := fun k => if k = p then d else f k
theorem ca_fu_s {f : Nat → Nat} {p d : Nat} : ca_fu f p d p = d := if_pos rfl
theorem ca_fu_n {f : Nat → Nat} {p d k : Nat} (h : k ≠ p) : ca_fu f p d k = f k := if_neg h
theorem ca_cn_up {f : Nat → Nat} {p d s : Nat} : ∀ n, p < n → ca_cn (ca_fu f p d) s n + (if f p = s then 1 else 0) = ca_cn f s n + (if d = s then 1 else 0) := by
  intro n
  induction n with
  | zero => intro h; omega
  | succ n ih =>
    intro h
    show ca_cn (ca_fu f p d) s n + (if ca_fu f p d n = s then 1 else 0) + (if f p = s then 1 else 0) = ca_cn f s n + (if f n = s then 1 else 0) + (if d = s then 1 else 0)
    by_cases e : n = p
    · rw [e, ca_fu_s, ca_cn_congr (f := ca_fu f p d) (f' := f) p (fun k hk => ca_fu_n (by omega))]
      omega
    · rw [ca_fu_n e]
      have t := ih (by omega)
      omega
theorem ca_cn_one {f : Nat → Nat} {p s n x : Nat} (hp : p < n) (e : f p = s) (h : ca_cn f s n + x = 1) : x = 0 ∧ ∀ k, k < n → k ≠ p → f k ≠ s := by
  have t := ca_cn_up (f := f) (d := s + 1) (s := s) n hp
  rw [if_pos e, if_neg (by omega)] at t
  refine ⟨by omega, fun k hk hkp => ?_⟩
  have z := ca_cn0' n (show ca_cn (ca_fu f p (s + 1)) s n = 0 by omega) k hk
  rw [ca_fu_n hkp] at z
  exact z
theorem ca_cn_pos {f : Nat → Nat} {p s n : Nat} (hp : p < n) (e : f p = s) : 1 ≤ ca_cn f s n := by
  rcases Nat.eq_zero_or_pos (ca_cn f s n) with h | h
  · exact absurd e (ca_cn0' n h p hp)
  · exact h
theorem ca_pig : ∀ (n : Nat) (l : List Nat), l.length < n → ∃ d, d < n ∧ d ∉ l := by
  intro n
  induction n with
  | zero => intro l h; omega
  | succ n ih =>
    intro l h
    by_cases hn : n ∈ l
    · have hl := List.length_erase_of_mem hn
      have hp : 0 < l.length := List.length_pos_of_mem hn
      obtain ⟨d, hd, hdl⟩ := ih (l.erase n) (by omega)
      exact ⟨d, by omega, fun z => hdl ((List.mem_erase_of_ne (by omega)).mpr z)⟩
    · exact ⟨n, by omega, hn⟩
theorem ca_free (f g : Nat → Nat) {m : Nat} (hm : m ≤ 16) : ∃ d, d < 79 ∧ ca_cn f d 16 + ca_cn g d m = 0 := by
  obtain ⟨d, hd, hn⟩ := ca_pig 79 ((List.range 16).map f ++ (List.range m).map g) (by
    rw [List.length_append, List.length_map, List.length_map, List.length_range, List.length_range]
    omega)
  refine ⟨d, hd, ?_⟩
  rw [ca_cn0 (f := f) 16 (fun k hk e => hn (List.mem_append.mpr (Or.inl (List.mem_map.mpr ⟨k, List.mem_range.mpr hk, e⟩)))),
    ca_cn0 (f := g) m (fun k hk e => hn (List.mem_append.mpr (Or.inr (List.mem_map.mpr ⟨k, List.mem_range.mpr hk, e⟩))))]
theorem ca_S_congr {a4 b4 : Nat → Int32} {s t : Nat} : ∀ n, (∀ i, i < n → a4 (s * 16 + i) = b4 (t * 16 + i)) → ca_S a4 s n = ca_S b4 t n := by
  intro n
  induction n with
  | zero => intro _; rfl
  | succ n ih =>
    intro h
    show ca_S a4 s n + a4 (s * 16 + n) = ca_S b4 t n + b4 (t * 16 + n)
    rw [ih (fun i hi => h i (by omega)), h n (by omega)]
/-! ints -/
theorem ca_m16 (s i : Nat) : nI s * 16 + nI i = nI (s * 16 + i) := by
  rw [show (16 : Int32) = nI 16 from rfl, pk_mul, nI_add]
theorem ca_64 (k : Nat) : (64 : Int32) + nI k = nI (64 + k) := by
  rw [show (64 : Int32) = nI 64 from rfl, nI_add]
theorem ca_plI : ∀ r, r < 16 → ∀ c, c < 16 → ((nI r >>> ((2 : Int32) &&& 31)) * 4) + (nI c >>> ((2 : Int32) &&& 31)) = nI (ca_pl r c) := by decide +kernel
theorem ca_wiI : ∀ r, r < 16 → ∀ c, c < 16 → ((nI r &&& 3) * 4) + (nI c &&& 3) = nI (ca_wi r c) := by decide +kernel
theorem ca_rI : ∀ k, k < 16 → ∀ i, i < 16 → ((nI k / 4) * 4) + (nI i / 4) = nI (k / 4 * 4 + i / 4) := by decide +kernel
theorem ca_cI : ∀ k, k < 16 → ∀ i, i < 16 → ((nI k - nI k / 4 * 4) * 4) + (nI i - nI i / 4 * 4) = nI (k % 4 * 4 + i % 4) := by decide +kernel
theorem ca_kr : ∀ k, k < 16 → (nI k / 4) * 4 = nI (k / 4 * 4) := by decide +kernel
theorem ca_kc : ∀ k, k < 16 → (nI k - nI k / 4 * 4) * 4 = nI (k % 4 * 4) := by decide +kernel
theorem ca_low : ∀ r, r < 16 → ∀ c, c < 16 → nI (r + 16 * c) &&& 15 = nI r := by decide +kernel
theorem ca_high : ∀ r, r < 16 → ∀ c, c < 16 → nI (r + 16 * c) >>> ((4 : Int32) &&& 31) = nI c := by decide +kernel
theorem ca_off (a i t : Nat) : nI (a + i) + (nI t - nI a) = nI (t + i) := by
  rw [← nI_add, ← nI_add]
  grind
theorem ca_sub1 {n : Nat} (h : 1 ≤ n) : nI n - 1 = nI (n - 1) := by
  rw [show (1 : Int32) = nI 1 from rfl, pk_sub h]
theorem ca_bool0 : vp_nar .boolean 0 = 0 := rfl
theorem ca_ne4 : ¬ (4 : Int32) = 0 := by decide
/-! the picture's own rows -/
theorem ca_K_congr {v m : Nat} {f g : Nat → Nat} {A A' B : Nat → Nat → Int32} {a2 a3 a4 a5 a6 a7 a8 : Nat → Int32} (h : ca_K v m f g A B a2 a3 a4 a5 a6 a7 a8) (hA : ∀ r c, r < 16 → c < 16 → A' r c = A r c) : ca_K v m f g A' B a2 a3 a4 a5 a6 a7 a8 :=
  ⟨h.1, h.2.1, h.2.2.1, fun r c hr hc => (h.2.2.2.1 r c hr hc).trans (hA r c hr hc).symm, h.2.2.2.2⟩
/-- a place's slot is taken for a new one that no one holds -/
theorem ca_K_own {v m : Nat} {f g : Nat → Nat} {A B : Nat → Nat → Int32} {a2 a3 a4 a5 a6 a7 a8 b4 : Nat → Int32} {p d : Nat} (hv : v < 4) (hm : m ≤ 16) (hp : p < 16) (hK : ca_K v m f g A B a2 a3 a4 a5 a6 a7 a8) (hd : d < 80) (hdf : ca_cn f d 16 + ca_cn g d m = 0)
    (h4 : ∀ i, i < 16 → b4 (d * 16 + i) = a4 (f p * 16 + i)) (h4' : ∀ j, (j < d * 16 ∨ d * 16 + 16 ≤ j) → b4 j = a4 j) :
    ca_K v m (ca_fu f p d) g A B (upd a2 (64 + p) (nI d)) (upd (upd a3 (f p) (a3 (f p) - 1)) d 1) b4 (upd a5 d (a5 (f p))) (upd a6 d (a6 (f p))) (upd a7 d (vp_nar .boolean (a7 (f p)))) (upd a8 d (a8 (f p))) := by
  obtain ⟨k1, k2, k3, k4, k5, k6⟩ := hK
  have hfd : ∀ k, k < 16 → f k ≠ d := ca_cn0' 16 (by omega)
  have hgd : ∀ k, k < m → g k ≠ d := ca_cn0' m (by omega)
  have hoth : ∀ s i, i < 16 → s ≠ d → b4 (s * 16 + i) = a4 (s * 16 + i) := fun s i hi hs => h4' _ (by omega)
  have hV : ∀ s i, i < 16 → s ≠ d → ca_V b4 (upd a5 d (a5 (f p))) (upd a6 d (a6 (f p))) s i = ca_V a4 a5 a6 s i := by
    intro s i hi hs
    unfold ca_V
    rw [hoth s i hi hs, pk_un hs, pk_un hs]
  refine ⟨fun k hk => ?_, fun k hk => ?_, fun s hs => ?_, fun r c hr hc => ?_, fun r c hr hc hpl => ?_, fun s hs h7 => ?_⟩
  · by_cases e : k = p
    · rw [e, ca_fu_s, pk_us]
      exact ⟨hd, rfl⟩
    · rw [ca_fu_n e, pk_un (by omega)]
      exact k1 k hk
  · rw [pk_un (by omega)]
    exact k2 k hk
  · have t := ca_cn_up (f := f) (p := p) (d := d) (s := s) 16 hp
    by_cases e : s = d
    · rw [e, pk_us]
      rw [e, if_neg (hfd p hp), if_pos rfl] at t
      rw [show ca_cn (ca_fu f p d) d 16 + ca_cn g d m = 1 by omega]
      rfl
    · rw [pk_un e]
      rw [if_neg (show ¬ d = s from fun z => e z.symm)] at t
      by_cases e2 : s = f p
      · have h1 := ca_cn_pos (f := f) hp e2.symm
        rw [if_pos e2.symm] at t
        rw [← e2, pk_us, k3 s hs, ca_sub1 (by omega)]
        congr 1
        omega
      · rw [if_neg (show ¬ f p = s from fun z => e2 z.symm)] at t
        rw [pk_un e2, k3 s hs]
        congr 1
        omega
  · have hpl := ca_pl_lt hr hc
    have hwi := ca_wi_lt r c
    rw [← k4 r c hr hc]
    by_cases e : ca_pl r c = p
    · rw [e, ca_fu_s]
      unfold ca_V
      rw [h4 _ hwi, pk_us, pk_us]
    · rw [ca_fu_n e]
      exact hV _ _ hwi (hfd _ hpl)
  · rw [← k5 r c hr hc hpl]
    exact hV _ _ (ca_wi_lt r c) (hgd _ hpl)
  · by_cases e : s = d
    · rw [e, pk_us] at h7
      rw [e, pk_us, ca_S_congr (b4 := a4) (t := f p) 16 h4]
      refine k6 _ (k1 p hp).1 (fun z => h7 ?_)
      rw [z]
      exact ca_bool0
    · rw [pk_un e] at h7
      rw [pk_un e, ca_S_congr (b4 := a4) (t := s) 16 (fun i hi => hoth s i hi e)]
      exact k6 s hs h7
/-- a slot that one place alone holds gets other contents -/
theorem ca_K_put {v m : Nat} {f g : Nat → Nat} {A A' B : Nat → Nat → Int32} {a2 a3 a4 a5 a6 a7 a8 b4 b5 b6 b7 b8 : Nat → Int32} {p d : Nat} (hp : p < 16) (hK : ca_K v m f g A B a2 a3 a4 a5 a6 a7 a8) (hd : f p = d)
    (hx1 : ∀ k, k < 16 → k ≠ p → f k ≠ d) (hx2 : ∀ k, k < m → g k ≠ d)
    (h4 : ∀ j, (j < d * 16 ∨ d * 16 + 16 ≤ j) → b4 j = a4 j) (h5 : ∀ s, s ≠ d → b5 s = a5 s) (h6 : ∀ s, s ≠ d → b6 s = a6 s) (h7 : ∀ s, s ≠ d → b7 s = a7 s) (h8 : ∀ s, s ≠ d → b8 s = a8 s)
    (h7d : b7 d ≠ 0 → b8 d = ca_S b4 d 16)
    (hA : ∀ r c, r < 16 → c < 16 → A' r c = if ca_pl r c = p then ca_V b4 b5 b6 d (ca_wi r c) else A r c) : ca_K v m f g A' B a2 a3 b4 b5 b6 b7 b8 := by
  obtain ⟨k1, k2, k3, k4, k5, k6⟩ := hK
  have hoth : ∀ s i, i < 16 → s ≠ d → b4 (s * 16 + i) = a4 (s * 16 + i) := fun s i hi hs => h4 _ (by omega)
  have hV : ∀ s i, i < 16 → s ≠ d → ca_V b4 b5 b6 s i = ca_V a4 a5 a6 s i := by
    intro s i hi hs
    unfold ca_V
    rw [hoth s i hi hs, h5 s hs, h6 s hs]
  refine ⟨k1, k2, k3, fun r c hr hc => ?_, fun r c hr hc hpl => ?_, fun s hs h => ?_⟩
  · rw [hA r c hr hc]
    by_cases e : ca_pl r c = p
    · rw [if_pos e, e, hd]
    · rw [if_neg e, ← k4 r c hr hc]
      exact hV _ _ (ca_wi_lt r c) (hx1 _ (ca_pl_lt hr hc) e)
  · rw [← k5 r c hr hc hpl]
    exact hV _ _ (ca_wi_lt r c) (hx2 _ hpl)
  · by_cases e : s = d
    · rw [e] at h ⊢
      exact h7d h
    · rw [h7 s e] at h
      rw [h8 s e, ca_S_congr (b4 := a4) (t := s) 16 (fun i hi => hoth s i hi e)]
      exact k6 s hs h
end
section
/-! read, freeSlot, own, settle, writeCell -/
section
variable {q0 q1 q2 q3 : Int32} {a1 a2 a3 a4 a5 a6 a7 a8 a9 a10 a11 : Nat → Int32}
theorem ca_read {post : Int32 → Prop} {a r c s : Nat} (ha : a < 5) (hr : r < 16) (hc : c < 16) (hs : s < 80) (h2 : a2 (a * 16 + ca_pl r c) = nI s) (hp : post (ca_V a4 a5 a6 s (ca_wi r c))) :
    wpX_read post (q0, q1, q2, q3, a1, a2, a3, a4, a5, a6, a7, a8, a9, a10, a11) (nI a) (nI r) (nI c) := by
  have hpl := ca_pl_lt hr hc
  have hwi := ca_wi_lt r c
  unfold wpX_read wpX_placeOf wpX_within
  dsimp only
  rw [ca_plI r hr c hc, ca_wiI r hr c hc, ca_m16, nI_clamp (show a * 16 + ca_pl r c < 2 ^ 31 by omega), h2]
  refine ⟨vp_in_nI (by omega) (by omega), nm_e ?_⟩
  rw [ca_m16, nI_clamp (show s * 16 + ca_wi r c < 2 ^ 31 by omega), nI_clamp (show s < 2 ^ 31 by omega)]
  exact ⟨vp_in_nI (by omega) (by omega), vp_in_nI hs (by omega), vp_in_nI hs (by omega), hp⟩
theorem ca_freeSlot {post : Int32 → Prop} (h : Nat → Nat) (hh : ∀ s, s < 80 → h s < 2 ^ 31 ∧ a3 s = nI (h s)) (he : ∃ d, d < 79 ∧ h d = 0) (H : ∀ d, d < 80 → h d = 0 → post (nI d)) :
    wpX_freeSlot post (q0, q1, q2, q3, a1, a2, a3, a4, a5, a6, a7, a8, a9, a10, a11) := by
  obtain ⟨d, ⟨hd, h0⟩, hl⟩ := pk_least (fun d => d < 79 ∧ h d = 0) he
  refine pk_loop (σ := Unit) (fun n i _ => wX_freeSlot_2 post q0 q1 q2 q3 a1 a2 a3 a4 a5 a6 a7 a8 a9 a10 a11 n (nI i)) (fun _ _ => True) d 0 () (by omega) trivial ?_ ?_
  · intro n _ _
    refine pk_le 79 d (fun z => absurd z (by omega)) (fun _ => ⟨pk_in d 80 (by omega), br_t ?_ (H d (by omega) h0)⟩)
    rw [nI_clamp (by omega), (hh d (by omega)).2, h0]
    decide
  · intro n i _ hi _ hw
    refine pk_le 79 i (fun z => absurd z (by omega)) (fun _ => ⟨pk_in i 80 (by omega), br_f ?_ (nm_r (nI_1 i) (hw () trivial))⟩)
    have t := hh i (by omega)
    rw [nI_clamp (by omega), t.2]
    exact nI_nle (Nat.pos_of_ne_zero (fun z => hl i hi ⟨by omega, z⟩)) t.1
theorem ca_own30 {post : Int32 → St2 → Prop} {p c d : Nat} (hc : c < 80) (hd : d < 80) (hcd : c ≠ d) (hp : p < 16)
    (H : ∀ b4 : Nat → Int32, (∀ i, i < 16 → b4 (d * 16 + i) = a4 (c * 16 + i)) → (∀ j, (j < d * 16 ∨ d * 16 + 16 ≤ j) → b4 j = a4 j) →
      post (nI d) (q0, q1, q2, q3, a1, upd a2 (64 + p) (nI d), upd (upd a3 c (a3 c - 1)) d 1, b4, upd a5 d (a5 c), upd a6 d (a6 c), upd a7 d (vp_nar .boolean (a7 c)), upd a8 d (a8 c), upd a9 d (vp_nar .boolean (a9 c)), upd a10 d (a10 c), a11)) :
    ∃ n, wX_own_30 post (nI p) (nI c) (nI d) q0 q1 q2 q3 n 0 a1 a2 a3 a4 a5 a6 a7 a8 a9 a10 a11 := by
  refine pk_loop (fun n i s => wX_own_30 post (nI p) (nI c) (nI d) q0 q1 q2 q3 n (nI i) a1 a2 a3 s a5 a6 a7 a8 a9 a10 a11)
    (fun i s => (∀ i', i' < i → s (d * 16 + i') = a4 (c * 16 + i')) ∧ (∀ j, (j < d * 16 ∨ d * 16 + 16 ≤ j) → s j = a4 j)) 16 0 a4 (by omega) ⟨fun _ h => absurd h (by omega), fun _ _ => rfl⟩ ?_ ?_
  · intro n s h
    have hcl : (nI c).toNatClampNeg = c := nI_clamp (by omega)
    have hdl : (nI d).toNatClampNeg = d := nI_clamp (by omega)
    have vc : vp_in (nI c) 80 := vp_in_nI hc (by omega)
    have vd : vp_in (nI d) 80 := vp_in_nI hd (by omega)
    have vp : vp_in (64 + nI p) 80 := pk_in (64 + p) 80 (by omega) (ca_64 p)
    have hpl : (64 + nI p).toNatClampNeg = 64 + p := pk_cl (64 + p) (ca_64 p)
    have t := H s h.1 h.2
    refine pk_le 16 16 (fun _ => ?_) (fun z => absurd z (by omega))
    rw [hcl, hdl, hpl]
    exact ⟨vc, vd, nm_e ⟨vc, vd, nm_e ⟨vc, vd, nm_e ⟨vc, vd, nm_e ⟨vc, vd, nm_e ⟨vc, vd, nm_e ⟨vc, vc, nm_e ⟨vd, nm_e ⟨vp, nm_e t⟩⟩⟩⟩⟩⟩⟩⟩⟩
  · intro n i s hi h hw
    have e1 : (nI c * 16 + nI i).toNatClampNeg = c * 16 + i := pk_cl (c * 16 + i) (ca_m16 c i)
    have e2 : (nI d * 16 + nI i).toNatClampNeg = d * 16 + i := pk_cl (d * 16 + i) (ca_m16 d i)
    refine pk_le 16 i (fun z => absurd z (by omega)) (fun _ => ⟨pk_in (c * 16 + i) 1280 (by omega) (ca_m16 c i), pk_in (d * 16 + i) 1280 (by omega) (ca_m16 d i), nm_e (nm_r (nI_1 i) (hw _ ⟨fun i' hi' => ?_, fun j hj => ?_⟩))⟩)
    · rw [e1, e2]
      by_cases e : i' = i
      · rw [e, pk_us]
        exact h.2 _ (by omega)
      · rw [pk_un (by omega)]
        exact h.1 i' (by omega)
    · rw [e2, pk_un (by omega)]
      exact h.2 j hj
theorem ca_own {post : Int32 → St2 → Prop} {v m p : Nat} {f g : Nat → Nat} {A B : Nat → Nat → Int32} (hv : v < 4) (hm : m ≤ 16) (hp : p < 16) (hK : ca_K v m f g A B a2 a3 a4 a5 a6 a7 a8)
    (H : ∀ (d : Nat) (f' : Nat → Nat) (b2 b3 b4 b5 b6 b7 b8 b9 b10 : Nat → Int32), ca_K v m f' g A B b2 b3 b4 b5 b6 b7 b8 → d < 80 → f' p = d → (∀ k, k < 16 → k ≠ p → f' k ≠ d) → (∀ k, k < m → g k ≠ d) → post (nI d) (q0, q1, q2, q3, a1, b2, b3, b4, b5, b6, b7, b8, b9, b10, a11)) :
    wpX_own post (q0, q1, q2, q3, a1, a2, a3, a4, a5, a6, a7, a8, a9, a10, a11) (nI p) := by
  obtain ⟨hf, h2⟩ := hK.1 p hp
  have h3 := hK.2.2.1
  unfold wpX_own
  dsimp only
  rw [ca_64, nI_clamp (show 64 + p < 2 ^ 31 by omega), h2]
  refine ⟨vp_in_nI (by omega) (by omega), nm_e ⟨vp_in_nI hf (by omega), ?_⟩⟩
  rw [nI_clamp (show f p < 2 ^ 31 by omega), h3 _ hf]
  have l1 := ca_cn_le (f := f) (s := f p) 16
  have l2 := ca_cn_le (f := g) (s := f p) m
  refine pk_eq (ca_cn f (f p) 16 + ca_cn g (f p) m) 1 (fun z => ?_) (fun _ => ?_)
  · obtain ⟨y1, y2⟩ := ca_cn_one hp rfl z
    exact H (f p) f _ _ _ _ _ _ _ _ _ hK hf rfl y2 (ca_cn0' m y1)
  · refine ca_freeSlot (fun s => ca_cn f s 16 + ca_cn g s m) (fun s hs => ⟨?_, h3 s hs⟩) (ca_free f g hm) (fun d hd h0 => ?_)
    · have l1 := ca_cn_le (f := f) (s := s) 16
      have l2 := ca_cn_le (f := g) (s := s) m
      show ca_cn f s 16 + ca_cn g s m < 2 ^ 31
      omega
    · have h0' : ca_cn f d 16 + ca_cn g d m = 0 := h0
      have hfd : ∀ k, k < 16 → f k ≠ d := ca_cn0' 16 (by omega)
      refine ca_own30 hf hd (hfd p hp) hp (fun b4 e1 e2 => H d (ca_fu f p d) _ _ _ _ _ _ _ _ _ (ca_K_own hv hm hp hK hd h0' e1 e2) hd ca_fu_s (fun k hk hkp => ?_) (ca_cn0' m (by omega)))
      rw [ca_fu_n hkp]
      exact hfd k hk
theorem ca_settle {post : St2 → Prop} {v m p d : Nat} {f g : Nat → Nat} {A B : Nat → Nat → Int32} (hp : p < 16) (hd : d < 80) (hK : ca_K v m f g A B a2 a3 a4 a5 a6 a7 a8) (hf : f p = d) (hx1 : ∀ k, k < 16 → k ≠ p → f k ≠ d) (hx2 : ∀ k, k < m → g k ≠ d)
    (H : ∀ (b4 b5 b6 b7 : Nat → Int32), ca_K v m f g A B a2 a3 b4 b5 b6 b7 a8 → b5 d = 1 → b6 d = 0 → post (q0, q1, q2, q3, a1, a2, a3, b4, b5, b6, b7, a8, a9, a10, a11)) :
    wpX_settle post (q0, q1, q2, q3, a1, a2, a3, a4, a5, a6, a7, a8, a9, a10, a11) (nI d) := by
  have hdl : (nI d).toNatClampNeg = d := nI_clamp (by omega)
  have vd : vp_in (nI d) 80 := vp_in_nI hd (by omega)
  refine pk_loop (fun n i s => wX_settle_2 post (nI d) q0 q1 q2 q3 n (nI i) a1 a2 a3 s a5 a6 a7 a8 a9 a10 a11)
    (fun i s => (∀ i', i' < 16 → s (d * 16 + i') = if i' < i then ca_V a4 a5 a6 d i' else a4 (d * 16 + i')) ∧ (∀ j, (j < d * 16 ∨ d * 16 + 16 ≤ j) → s j = a4 j)) 16 0 a4 (by omega) ⟨fun i' _ => by rw [if_neg (by omega)], fun _ _ => rfl⟩ ?_ ?_
  · intro n s h
    refine pk_le 16 16 (fun _ => ?_) (fun z => absurd z (by omega))
    rw [hdl]
    refine ⟨vd, nm_e ⟨vd, nm_e ⟨vd, nm_e (H _ _ _ _ (ca_K_put hp hK hf hx1 hx2 h.2 (fun s hs => pk_un hs) (fun s hs => pk_un hs) (fun s hs => pk_un hs) (fun _ _ => rfl) (fun z => absurd pk_us z) (fun r c hr hc => ?_)) pk_us pk_us)⟩⟩⟩
    by_cases e : ca_pl r c = p
    · rw [if_pos e, ← hK.2.2.2.1 r c hr hc, e, hf]
      have hwi := ca_wi_lt r c
      unfold ca_V
      rw [h.1 _ hwi, if_pos hwi, pk_us, pk_us, Int32.mul_one, Int32.add_zero]
      rfl
    · rw [if_neg e]
  · intro n i s hi h hw
    have e2 : (nI d * 16 + nI i).toNatClampNeg = d * 16 + i := pk_cl (d * 16 + i) (ca_m16 d i)
    have v2 : vp_in (nI d * 16 + nI i) 1280 := pk_in (d * 16 + i) 1280 (by omega) (ca_m16 d i)
    refine pk_le 16 i (fun z => absurd z (by omega)) (fun _ => ⟨v2, vd, vd, v2, nm_e (nm_r (nI_1 i) (hw _ ⟨fun i' hi' => ?_, fun j hj => ?_⟩))⟩)
    · rw [e2, hdl]
      by_cases e : i' = i
      · have t := h.1 i hi
        rw [if_neg (by omega)] at t
        rw [e, pk_us, if_pos (by omega), t]
        rfl
      · rw [pk_un (by omega), h.1 i' hi']
        by_cases e3 : i' < i
        · rw [if_pos e3, if_pos (by omega)]
        · rw [if_neg e3, if_neg (by omega)]
    · rw [e2, pk_un (by omega)]
      exact h.2 j hj
def ca_up (A : Nat → Nat → Int32) (r c : Nat) (x : Int32) : Nat → Nat → Int32 := fun r' c' => if r' = r ∧ c' = c then x else A r' c'
theorem ca_w42 {post : St2 → Prop} {v m r c d : Nat} {x : Int32} {f g : Nat → Nat} {A B : Nat → Nat → Int32} (hr : r < 16) (hc : c < 16) (hd : d < 80) (hK : ca_K v m f g A B a2 a3 a4 a5 a6 a7 a8) (hf : f (ca_pl r c) = d) (hx1 : ∀ k, k < 16 → k ≠ ca_pl r c → f k ≠ d) (hx2 : ∀ k, k < m → g k ≠ d) (h5 : a5 d = 1) (h6 : a6 d = 0)
    (H : ∀ (b4 b7 b9 : Nat → Int32), ca_K v m f g (ca_up A r c x) B a2 a3 b4 a5 a6 b7 a8 → post (q0, q1, q2, q3, a1, a2, a3, b4, a5, a6, b7, a8, b9, a10, a11)) :
    wX_writeCell_42 post (nI r) (nI c) x (nI d) q0 q1 q2 q3 a1 a2 a3 a4 a5 a6 a7 a8 a9 a10 a11 := by
  have hwi := ca_wi_lt r c
  have hdl : (nI d).toNatClampNeg = d := nI_clamp (by omega)
  have vd : vp_in (nI d) 80 := vp_in_nI hd (by omega)
  unfold wX_writeCell_42 wpX_within
  dsimp only
  rw [ca_wiI r hr c hc, ca_m16, nI_clamp (show d * 16 + ca_wi r c < 2 ^ 31 by omega), hdl]
  refine ⟨vp_in_nI (by omega) (by omega), nm_e ⟨vd, nm_e ⟨vd, nm_e (H _ _ _ (ca_K_put (ca_pl_lt hr hc) hK hf hx1 hx2 (fun j hj => pk_un (by omega)) (fun _ _ => rfl) (fun _ _ => rfl) (fun s hs => pk_un hs) (fun _ _ => rfl) (fun z => absurd pk_us z) (fun r' c' hr' hc' => ?_)))⟩⟩⟩
  unfold ca_up
  by_cases e : ca_pl r' c' = ca_pl r c
  · rw [if_pos e]
    unfold ca_V
    rw [h5, h6, Int32.mul_one, Int32.add_zero]
    by_cases e2 : ca_wi r' c' = ca_wi r c
    · rw [if_pos (ca_inj hc' hc e e2), e2, pk_us]
    · rw [if_neg (fun z => e2 (by rw [z.1, z.2])), pk_un (by omega), ← hK.2.2.2.1 r' c' hr' hc', e, hf]
      unfold ca_V
      rw [h5, h6, Int32.mul_one, Int32.add_zero]
  · rw [if_neg e, if_neg (fun z => e (by rw [z.1, z.2]))]
theorem ca_w36 {post : St2 → Prop} {v m r c d : Nat} {x : Int32} {f g : Nat → Nat} {A B : Nat → Nat → Int32} (hr : r < 16) (hc : c < 16) (hd : d < 80) (hK : ca_K v m f g A B a2 a3 a4 a5 a6 a7 a8) (hf : f (ca_pl r c) = d) (hx1 : ∀ k, k < 16 → k ≠ ca_pl r c → f k ≠ d) (hx2 : ∀ k, k < m → g k ≠ d)
    (H : ∀ (b4 b5 b6 b7 b9 : Nat → Int32), ca_K v m f g (ca_up A r c x) B a2 a3 b4 b5 b6 b7 a8 → post (q0, q1, q2, q3, a1, a2, a3, b4, b5, b6, b7, a8, b9, a10, a11)) :
    wX_writeCell_36 post (nI r) (nI c) x (nI d) q0 q1 q2 q3 a1 a2 a3 a4 a5 a6 a7 a8 a9 a10 a11 := by
  unfold wX_writeCell_36
  exact ca_settle (ca_pl_lt hr hc) hd hK hf hx1 hx2 (fun b4 b5 b6 b7 hK' e5 e6 => ca_w42 hr hc hd hK' hf hx1 hx2 e5 e6 (fun c4 c7 c9 hK2 => H _ _ _ _ _ hK2))
theorem ca_writeCell {post : St2 → Prop} {v m r c : Nat} {x : Int32} {f g : Nat → Nat} {A B : Nat → Nat → Int32} (hv : v < 4) (hm : m ≤ 16) (hr : r < 16) (hc : c < 16) (hK : ca_K v m f g A B a2 a3 a4 a5 a6 a7 a8)
    (H : ∀ (f' : Nat → Nat) (b2 b3 b4 b5 b6 b7 b8 b9 b10 : Nat → Int32), ca_K v m f' g (ca_up A r c x) B b2 b3 b4 b5 b6 b7 b8 → post (q0, q1, q2, q3, a1, b2, b3, b4, b5, b6, b7, b8, b9, b10, a11)) :
    wpX_writeCell post (q0, q1, q2, q3, a1, a2, a3, a4, a5, a6, a7, a8, a9, a10, a11) (nI r) (nI c) x := by
  unfold wpX_writeCell wpX_placeOf
  dsimp only
  rw [ca_plI r hr c hc]
  refine ca_own hv hm (ca_pl_lt hr hc) hK (fun d f' b2 b3 b4 b5 b6 b7 b8 b9 b10 hK' hd hf hx1 hx2 => ?_)
  have hdl : (nI d).toNatClampNeg = d := nI_clamp (by omega)
  have vd : vp_in (nI d) 80 := vp_in_nI hd (by omega)
  dsimp only
  rw [hdl]
  have w36 : wX_writeCell_36 post (nI r) (nI c) x (nI d) q0 q1 q2 q3 a1 b2 b3 b4 b5 b6 b7 b8 b9 b10 a11 := ca_w36 hr hc hd hK' hf hx1 hx2 (fun _ _ _ _ _ hK2 => H f' _ _ _ _ _ _ _ _ _ hK2)
  refine ⟨vd, br_c (fun h5 => ⟨vd, br_c (fun h6 => ?_) (fun _ => w36)⟩) (fun _ => w36)⟩
  exact ca_w42 hr hc hd hK' hf hx1 hx2 h5 h6 (fun _ _ _ hK2 => H f' _ _ _ _ _ _ _ _ _ hK2)
end
end
section
/-! regions, changeWhole, changePart, change, add -/
theorem ca_ifc {p q : Prop} {hp : Decidable p} {hq : Decidable q} {x y : Int32} (h : p ↔ q) : (@ite Int32 p hp x y) = (@ite Int32 q hq x y) := by
  by_cases c : p
  · rw [if_pos c, if_pos (h.mp c)]
  · rw [if_neg c, if_neg (fun z => c (h.mpr z))]
section
variable {q0 q1 q2 q3 : Int32} {a1 a2 a3 a4 a5 a6 a7 a8 a9 a10 a11 : Nat → Int32}
theorem ca_readP {post : Int32 → Prop} {v m r c : Nat} {f g : Nat → Nat} {A B : Nat → Nat → Int32} (hK : ca_K v m f g A B a2 a3 a4 a5 a6 a7 a8) (hr : r < 16) (hc : c < 16) (hp : post (A r c)) :
    wpX_read post (q0, q1, q2, q3, a1, a2, a3, a4, a5, a6, a7, a8, a9, a10, a11) 4 (nI r) (nI c) := by
  have t := hK.1 _ (ca_pl_lt hr hc)
  refine ca_read (a := 4) (s := f (ca_pl r c)) (by omega) hr hc t.1 t.2 ?_
  rw [hK.2.2.2.1 r c hr hc]
  exact hp
theorem ca_readV {post : Int32 → Prop} {v r c : Nat} {f g : Nat → Nat} {A B : Nat → Nat → Int32} (hK : ca_K v 16 f g A B a2 a3 a4 a5 a6 a7 a8) (hv : v < 4) (hr : r < 16) (hc : c < 16) (hp : post (B r c)) :
    wpX_read post (q0, q1, q2, q3, a1, a2, a3, a4, a5, a6, a7, a8, a9, a10, a11) (nI v) (nI r) (nI c) := by
  have t := hK.2.1 _ (ca_pl_lt hr hc)
  refine ca_read (a := v) (s := g (ca_pl r c)) (by omega) hr hc t.1 t.2 ?_
  rw [hK.2.2.2.2.1 r c hr hc (ca_pl_lt hr hc)]
  exact hp
theorem ca_bad {post : Int32 → Prop} {n : Nat} (h : n < 256) (hp : post 0) : wpX_bad post () (nI n) :=
  br_f (nI_pos (by omega)) (br_t (nI_le (b := 255) (by omega) (by omega)) hp)
theorem ca_p3 (n : Nat) : nI n + 3 = nI (n + 3) := by
  rw [show (3 : Int32) = nI 3 from rfl, nI_add]
theorem ca_68 {post : St2 → Prop} {c1 c2 : Nat} {z0 : Int32} (h1 : c1 < 16) (h2 : c2 < 16) (H : post (q0, q1, z0, nI (max c1 c2), a1, a2, a3, a4, a5, a6, a7, a8, a9, a10, a11)) :
    wX_setRegion_68 post (nI c1) (nI c2) z0 q0 q1 q2 q3 a1 a2 a3 a4 a5 a6 a7 a8 a9 a10 a11 := by
  unfold wX_setRegion_68
  refine pk_le c2 c1 (fun z => ?_) (fun z => ?_)
  · rw [Nat.max_eq_left z] at H
    exact H
  · rw [Nat.max_eq_right (by omega)] at H
    exact H
theorem ca_50 {post : St2 → Prop} {c1 c2 : Nat} {z0 : Int32} (h1 : c1 < 16) (h2 : c2 < 16) (H : post (q0, z0, nI (min c1 c2), nI (max c1 c2), a1, a2, a3, a4, a5, a6, a7, a8, a9, a10, a11)) :
    wX_setRegion_50 post (nI c1) (nI c2) z0 q0 q1 q2 q3 a1 a2 a3 a4 a5 a6 a7 a8 a9 a10 a11 := by
  unfold wX_setRegion_50
  refine pk_le c2 c1 (fun z => ca_68 h1 h2 ?_) (fun z => ca_68 h1 h2 ?_)
  · rw [Nat.min_eq_right z] at H
    exact H
  · rw [Nat.min_eq_left (by omega)] at H
    exact H
theorem ca_34 {post : St2 → Prop} {r1 r2 c1 c2 : Nat} {z0 : Int32} (g1 : r1 < 16) (g2 : r2 < 16) (h1 : c1 < 16) (h2 : c2 < 16) (H : post (z0, nI (max r1 r2), nI (min c1 c2), nI (max c1 c2), a1, a2, a3, a4, a5, a6, a7, a8, a9, a10, a11)) :
    wX_setRegion_34 post (nI r1) (nI r2) (nI c1) (nI c2) z0 q0 q1 q2 q3 a1 a2 a3 a4 a5 a6 a7 a8 a9 a10 a11 := by
  unfold wX_setRegion_34
  refine pk_le r2 r1 (fun z => ca_50 h1 h2 ?_) (fun z => ca_50 h1 h2 ?_)
  · rw [Nat.max_eq_left z] at H
    exact H
  · rw [Nat.max_eq_right (by omega)] at H
    exact H
theorem ca_setRegion {post : St2 → Prop} {r1 r2 c1 c2 : Nat} (g1 : r1 < 16) (g2 : r2 < 16) (h1 : c1 < 16) (h2 : c2 < 16) (H : post (nI (min r1 r2), nI (max r1 r2), nI (min c1 c2), nI (max c1 c2), a1, a2, a3, a4, a5, a6, a7, a8, a9, a10, a11)) :
    wpX_setRegion post (q0, q1, q2, q3, a1, a2, a3, a4, a5, a6, a7, a8, a9, a10, a11) (nI (r1 + 16 * c1)) (nI (r2 + 16 * c2)) := by
  unfold wpX_setRegion
  dsimp only
  refine nm_r (ca_low r1 g1 c1 h1) (nm_r (ca_low r2 g2 c2 h2) (nm_r (ca_high r1 g1 c1 h1) (nm_r (ca_high r2 g2 c2 h2) ?_)))
  refine pk_le r2 r1 (fun z => ca_34 g1 g2 h1 h2 ?_) (fun z => ca_34 g1 g2 h1 h2 ?_)
  · rw [Nat.min_eq_right z] at H
    exact H
  · rw [Nat.min_eq_left (by omega)] at H
    exact H
theorem ca_covers {post : Int32 → Prop} {k r0 r1 c0 c1 : Nat} (hk : k < 16) (hr0 : r0 < 16) (hr1 : r1 < 16) (hc0 : c0 < 16) (hc1 : c1 < 16)
    (h1 : (r0 ≤ k / 4 * 4 ∧ k / 4 * 4 + 3 ≤ r1 ∧ c0 ≤ k % 4 * 4 ∧ k % 4 * 4 + 3 ≤ c1) → post 1) (h0 : ¬ (r0 ≤ k / 4 * 4 ∧ k / 4 * 4 + 3 ≤ r1 ∧ c0 ≤ k % 4 * 4 ∧ k % 4 * 4 + 3 ≤ c1) → post 0) :
    wpX_covers post (nI r0, nI r1, nI c0, nI c1, a1, a2, a3, a4, a5, a6, a7, a8, a9, a10, a11) (nI k) := by
  unfold wpX_covers
  dsimp only
  refine ⟨ca_ne4, nm_r (ca_kr k hk) ⟨ca_ne4, nm_r (ca_kc k hk) ?_⟩⟩
  refine pk_lt (k / 4 * 4) r0 (fun z => h0 (by omega)) (fun z => ?_)
  refine pk_lt r1 (k / 4 * 4 + 3) (fun z => h0 (by omega)) (fun z => ?_) rfl (ca_p3 _)
  refine pk_lt (k % 4 * 4) c0 (fun z => h0 (by omega)) (fun z => ?_)
  exact pk_lt c1 (k % 4 * 4 + 3) (fun z => h0 (by omega)) (fun z => h1 (by omega)) rfl (ca_p3 _)
theorem ca_touches {post : Int32 → Prop} {k r0 r1 c0 c1 : Nat} (hk : k < 16) (hr0 : r0 < 16) (hr1 : r1 < 16) (hc0 : c0 < 16) (hc1 : c1 < 16)
    (h1 : (r0 ≤ k / 4 * 4 + 3 ∧ k / 4 * 4 ≤ r1 ∧ c0 ≤ k % 4 * 4 + 3 ∧ k % 4 * 4 ≤ c1) → post 1) (h0 : ¬ (r0 ≤ k / 4 * 4 + 3 ∧ k / 4 * 4 ≤ r1 ∧ c0 ≤ k % 4 * 4 + 3 ∧ k % 4 * 4 ≤ c1) → post 0) :
    wpX_touches post (nI r0, nI r1, nI c0, nI c1, a1, a2, a3, a4, a5, a6, a7, a8, a9, a10, a11) (nI k) := by
  unfold wpX_touches
  dsimp only
  refine ⟨ca_ne4, nm_r (ca_kr k hk) ⟨ca_ne4, nm_r (ca_kc k hk) ?_⟩⟩
  refine pk_lt (k / 4 * 4 + 3) r0 (fun z => h0 (by omega)) (fun z => ?_) (ca_p3 _) rfl
  refine pk_lt r1 (k / 4 * 4) (fun z => h0 (by omega)) (fun z => ?_)
  refine pk_lt (k % 4 * 4 + 3) c0 (fun z => h0 (by omega)) (fun z => ?_) (ca_p3 _) rfl
  exact pk_lt c1 (k % 4 * 4) (fun z => h0 (by omega)) (fun z => h1 (by omega))
theorem ca_inRegion {post : Int32 → Prop} {r c r0 r1 c0 c1 : Nat} (hr : r < 16) (hc : c < 16) (hr0 : r0 < 16) (hr1 : r1 < 16) (hc0 : c0 < 16) (hc1 : c1 < 16)
    (h1 : (r0 ≤ r ∧ r ≤ r1 ∧ c0 ≤ c ∧ c ≤ c1) → post 1) (h0 : ¬ (r0 ≤ r ∧ r ≤ r1 ∧ c0 ≤ c ∧ c ≤ c1) → post 0) :
    wpX_inRegion post (nI r0, nI r1, nI c0, nI c1, a1, a2, a3, a4, a5, a6, a7, a8, a9, a10, a11) (nI r) (nI c) := by
  unfold wpX_inRegion
  dsimp only
  refine pk_lt r r0 (fun z => h0 (by omega)) (fun z => ?_)
  refine pk_lt r1 r (fun z => h0 (by omega)) (fun z => ?_)
  refine pk_lt c c0 (fun z => h0 (by omega)) (fun z => ?_)
  exact pk_lt c1 c (fun z => h0 (by omega)) (fun z => h1 (by omega))
theorem ca_whole {post : St2 → Prop} {v m p : Nat} {x : Int32} {f g : Nat → Nat} {A B : Nat → Nat → Int32} (hv : v < 4) (hm : m ≤ 16) (hp : p < 16) (hK : ca_K v m f g A B a2 a3 a4 a5 a6 a7 a8)
    (H : ∀ (f' : Nat → Nat) (b2 b3 b4 b5 b6 b7 b8 b9 b10 : Nat → Int32), ca_K v m f' g (fun r c => if ca_pl r c = p then A r c + x else A r c) B b2 b3 b4 b5 b6 b7 b8 → post (q0, q1, q2, q3, a1, b2, b3, b4, b5, b6, b7, b8, b9, b10, a11)) :
    wpX_changeWhole post (q0, q1, q2, q3, a1, a2, a3, a4, a5, a6, a7, a8, a9, a10, a11) (nI p) 1 x := by
  unfold wpX_changeWhole
  dsimp only
  refine ca_own hv hm hp hK (fun d f' b2 b3 b4 b5 b6 b7 b8 b9 b10 hK' hd hf hx1 hx2 => ?_)
  have hdl : (nI d).toNatClampNeg = d := nI_clamp (by omega)
  have vd : vp_in (nI d) 80 := vp_in_nI hd (by omega)
  dsimp only
  rw [hdl]
  refine br_f (by decide) (br_t rfl ⟨vd, vd, nm_e ⟨vd, nm_e (H f' _ _ _ _ _ _ _ _ _ (ca_K_put hp hK' hf hx1 hx2 (fun _ _ => rfl) (fun _ _ => rfl) (fun s hs => pk_un hs) (fun _ _ => rfl) (fun _ _ => rfl) (hK'.2.2.2.2.2 d hd) (fun r c hr hc => ?_)))⟩⟩)
  by_cases e : ca_pl r c = p
  · rw [if_pos e, if_pos e, ← hK'.2.2.2.1 r c hr hc, e, hf]
    unfold ca_V
    rw [pk_us, Int32.add_assoc]
  · rw [if_neg e, if_neg e]
/-- place k, its first i cells changed -/
def ca_pt (A : Nat → Nat → Int32) (x : Int32) (r0 r1 c0 c1 k i : Nat) : Nat → Nat → Int32 := fun r c => if ca_pl r c = k ∧ ca_wi r c < i ∧ r0 ≤ r ∧ r ≤ r1 ∧ c0 ≤ c ∧ c ≤ c1 then A r c + x else A r c
/-- the first k places changed -/
def ca_ch (A : Nat → Nat → Int32) (x : Int32) (r0 r1 c0 c1 k : Nat) : Nat → Nat → Int32 := fun r c => if ca_pl r c < k ∧ r0 ≤ r ∧ r ≤ r1 ∧ c0 ≤ c ∧ c ≤ c1 then A r c + x else A r c
theorem ca_pt_in {A : Nat → Nat → Int32} {x : Int32} {r0 r1 c0 c1 k i r c : Nat} (hc : c < 16) (e1 : ca_pl r c = k) (e2 : ca_wi r c = i) (hin : r0 ≤ r ∧ r ≤ r1 ∧ c0 ≤ c ∧ c ≤ c1) :
    ∀ r' c', r' < 16 → c' < 16 → ca_pt A x r0 r1 c0 c1 k (i + 1) r' c' = ca_up (ca_pt A x r0 r1 c0 c1 k i) r c (ca_pt A x r0 r1 c0 c1 k i r c + x) r' c' := by
  intro r' c' hr' hc'
  unfold ca_up
  by_cases e : r' = r ∧ c' = c
  · rw [if_pos e, e.1, e.2]
    unfold ca_pt
    rw [if_pos (by omega), if_neg (by omega)]
  · rw [if_neg e]
    have hne : ¬ (ca_pl r' c' = k ∧ ca_wi r' c' = i) := fun z => e (ca_inj hc' hc (z.1.trans e1.symm) (z.2.trans e2.symm))
    unfold ca_pt
    exact ca_ifc (by omega)
theorem ca_pt_out {A : Nat → Nat → Int32} {x : Int32} {r0 r1 c0 c1 k i r c : Nat} (hc : c < 16) (e1 : ca_pl r c = k) (e2 : ca_wi r c = i) (hin : ¬ (r0 ≤ r ∧ r ≤ r1 ∧ c0 ≤ c ∧ c ≤ c1)) :
    ∀ r' c', r' < 16 → c' < 16 → ca_pt A x r0 r1 c0 c1 k (i + 1) r' c' = ca_pt A x r0 r1 c0 c1 k i r' c' := by
  intro r' c' hr' hc'
  unfold ca_pt
  by_cases e : ca_pl r' c' = k ∧ ca_wi r' c' = i
  · have z := ca_inj hc' hc (e.1.trans e1.symm) (e.2.trans e2.symm)
    rw [z.1, z.2, if_neg (fun y => hin y.2.2), if_neg (fun y => hin y.2.2)]
  · exact ca_ifc (by omega)
theorem ca_part3 {post : St2 → Prop} {v m k r0 r1 c0 c1 : Nat} {x : Int32} {g : Nat → Nat} {A B : Nat → Nat → Int32} (hv : v < 4) (hm : m ≤ 16) (hk : k < 16) (hr0 : r0 < 16) (hr1 : r1 < 16) (hc0 : c0 < 16) (hc1 : c1 < 16)
    (H : ∀ (f : Nat → Nat) (b2 b3 b4 b5 b6 b7 b8 b9 b10 : Nat → Int32), ca_K v m f g (ca_pt A x r0 r1 c0 c1 k 16) B b2 b3 b4 b5 b6 b7 b8 → post (nI r0, nI r1, nI c0, nI c1, a1, b2, b3, b4, b5, b6, b7, b8, b9, b10, a11)) :
    ∀ (n i : Nat) (f : Nat → Nat) (b2 b3 b4 b5 b6 b7 b8 b9 b10 : Nat → Int32), i ≤ 16 → 16 - i < n → ca_K v m f g (ca_pt A x r0 r1 c0 c1 k i) B b2 b3 b4 b5 b6 b7 b8 →
      wX_changePart_3 post (nI k) 1 x n (nI i) (nI r0) (nI r1) (nI c0) (nI c1) a1 b2 b3 b4 b5 b6 b7 b8 b9 b10 a11 := by
  intro n
  induction n with
  | zero => intro i f b2 b3 b4 b5 b6 b7 b8 b9 b10 h1 h2; omega
  | succ n ih =>
    intro i f b2 b3 b4 b5 b6 b7 b8 b9 b10 h1 h2 hK
    refine pk_le 16 i (fun z => ?_) (fun z => ?_)
    · rw [show i = 16 by omega] at hK
      exact H f _ _ _ _ _ _ _ _ _ hK
    · obtain ⟨e1, e2, hr, hc⟩ := ca_rc hk z
      refine ⟨ca_ne4, ca_ne4, nm_r (ca_rI k hk i z) ⟨ca_ne4, ca_ne4, nm_r (ca_cI k hk i z) (ca_inRegion hr hc hr0 hr1 hc0 hc1 (fun hin => ?_) (fun hout => ?_))⟩⟩
      · refine br_f (by decide) (ca_readP hK hr hc ?_)
        refine br_f (by decide) (br_t rfl (ca_writeCell hv hm hr hc hK (fun f' d2 d3 d4 d5 d6 d7 d8 d9 d10 hK' => ?_)))
        refine nm_r (nI_1 i) (ih (i + 1) f' _ _ _ _ _ _ _ _ _ (by omega) (by omega) (ca_K_congr hK' (ca_pt_in hc e1 e2 hin)))
      · exact br_t rfl (nm_r (nI_1 i) (ih (i + 1) f _ _ _ _ _ _ _ _ _ (by omega) (by omega) (ca_K_congr hK (ca_pt_out hc e1 e2 hout))))
theorem ca_part {post : St2 → Prop} {v m k r0 r1 c0 c1 : Nat} {x : Int32} {f g : Nat → Nat} {A B : Nat → Nat → Int32} (hv : v < 4) (hm : m ≤ 16) (hk : k < 16) (hr0 : r0 < 16) (hr1 : r1 < 16) (hc0 : c0 < 16) (hc1 : c1 < 16) (hK : ca_K v m f g A B a2 a3 a4 a5 a6 a7 a8)
    (H : ∀ (f : Nat → Nat) (b2 b3 b4 b5 b6 b7 b8 b9 b10 : Nat → Int32), ca_K v m f g (ca_pt A x r0 r1 c0 c1 k 16) B b2 b3 b4 b5 b6 b7 b8 → post (nI r0, nI r1, nI c0, nI c1, a1, b2, b3, b4, b5, b6, b7, b8, b9, b10, a11)) :
    wpX_changePart post (nI r0, nI r1, nI c0, nI c1, a1, a2, a3, a4, a5, a6, a7, a8, a9, a10, a11) (nI k) 1 x := by
  refine ⟨17, ca_part3 hv hm hk hr0 hr1 hc0 hc1 H 17 0 f _ _ _ _ _ _ _ _ _ (by omega) (by omega) (ca_K_congr hK (fun r c _ _ => ?_))⟩
  unfold ca_pt
  rw [if_neg (by omega)]
theorem ca_ch_no {A : Nat → Nat → Int32} {x : Int32} {r0 r1 c0 c1 k : Nat} (hn : ¬ (r0 ≤ k / 4 * 4 + 3 ∧ k / 4 * 4 ≤ r1 ∧ c0 ≤ k % 4 * 4 + 3 ∧ k % 4 * 4 ≤ c1)) :
    ∀ r c, r < 16 → c < 16 → ca_ch A x r0 r1 c0 c1 (k + 1) r c = ca_ch A x r0 r1 c0 c1 k r c := by
  intro r c hr hc
  unfold ca_ch
  refine ca_ifc ?_
  unfold ca_pl
  omega
theorem ca_ch_all {A : Nat → Nat → Int32} {x : Int32} {r0 r1 c0 c1 k : Nat} (hn : r0 ≤ k / 4 * 4 ∧ k / 4 * 4 + 3 ≤ r1 ∧ c0 ≤ k % 4 * 4 ∧ k % 4 * 4 + 3 ≤ c1) :
    ∀ r c, r < 16 → c < 16 → ca_ch A x r0 r1 c0 c1 (k + 1) r c = if ca_pl r c = k then ca_ch A x r0 r1 c0 c1 k r c + x else ca_ch A x r0 r1 c0 c1 k r c := by
  intro r c hr hc
  unfold ca_ch
  by_cases e : ca_pl r c = k
  · rw [if_pos e, if_neg (show ¬ (ca_pl r c < k ∧ r0 ≤ r ∧ r ≤ r1 ∧ c0 ≤ c ∧ c ≤ c1) by omega), if_pos]
    unfold ca_pl at e ⊢
    omega
  · rw [if_neg e]
    exact ca_ifc (by omega)
theorem ca_ch_pt {A : Nat → Nat → Int32} {x : Int32} {r0 r1 c0 c1 k : Nat} :
    ∀ r c, r < 16 → c < 16 → ca_ch A x r0 r1 c0 c1 (k + 1) r c = ca_pt (ca_ch A x r0 r1 c0 c1 k) x r0 r1 c0 c1 k 16 r c := by
  intro r c hr hc
  have hw := ca_wi_lt r c
  unfold ca_pt ca_ch
  by_cases e : ca_pl r c = k
  · rw [if_neg (show ¬ (ca_pl r c < k ∧ r0 ≤ r ∧ r ≤ r1 ∧ c0 ≤ c ∧ c ≤ c1) by omega)]
    exact ca_ifc (by omega)
  · rw [if_neg (show ¬ (ca_pl r c = k ∧ ca_wi r c < 16 ∧ r0 ≤ r ∧ r ≤ r1 ∧ c0 ≤ c ∧ c ≤ c1) by omega)]
    exact ca_ifc (by omega)
theorem ca_change25 {post : Int32 → St2 → Prop} {v m r0 r1 c0 c1 : Nat} {x : Int32} {g : Nat → Nat} {A B : Nat → Nat → Int32} (hv : v < 4) (hm : m ≤ 16) (hr0 : r0 ≤ r1) (hr1 : r1 < 16) (hc0 : c0 ≤ c1) (hc1 : c1 < 16)
    (H : ∀ (f : Nat → Nat) (b2 b3 b4 b5 b6 b7 b8 b9 b10 : Nat → Int32), ca_K v m f g (ca_ch A x r0 r1 c0 c1 16) B b2 b3 b4 b5 b6 b7 b8 → post (nI ((r1 - r0 + 1) * (c1 - c0 + 1))) (nI r0, nI r1, nI c0, nI c1, a1, b2, b3, b4, b5, b6, b7, b8, b9, b10, a11)) :
    ∀ (n k : Nat) (f : Nat → Nat) (b2 b3 b4 b5 b6 b7 b8 b9 b10 : Nat → Int32), k ≤ 16 → 16 - k < n → ca_K v m f g (ca_ch A x r0 r1 c0 c1 k) B b2 b3 b4 b5 b6 b7 b8 →
      wX_change_25 post 1 x n (nI k) (nI r0) (nI r1) (nI c0) (nI c1) a1 b2 b3 b4 b5 b6 b7 b8 b9 b10 a11 := by
  intro n
  induction n with
  | zero => intro k f b2 b3 b4 b5 b6 b7 b8 b9 b10 h1 h2; omega
  | succ n ih =>
    intro k f b2 b3 b4 b5 b6 b7 b8 b9 b10 h1 h2 hK
    refine pk_le 16 k (fun z => ?_) (fun z => ?_)
    · rw [show k = 16 by omega] at hK
      unfold wpX_regionSize
      dsimp only
      rw [pk_sub hr0, pk_sub hc0, nI_1, nI_1, pk_mul]
      exact H f _ _ _ _ _ _ _ _ _ hK
    · refine ca_covers z (by omega) hr1 (by omega) hc1 (fun hall => ?_) (fun hnot => ?_)
      · have W : wpX_changeWhole (fun u => match u with | (f0_row0, f0_row1, f0_column0, f0_column1, e1, e2, e3, e4, e5, e6, e7, e8, e9, e10, e11) => (∀ x5 : Int32, x5 = nI k + 1 → (wX_change_25 post 1 x n x5 f0_row0 f0_row1 f0_column0 f0_column1 e1 e2 e3 e4 e5 e6 e7 e8 e9 e10 e11))) (nI r0, nI r1, nI c0, nI c1, a1, b2, b3, b4, b5, b6, b7, b8, b9, b10, a11) (nI k) 1 x :=
          ca_whole hv hm z hK (fun f' d2 d3 d4 d5 d6 d7 d8 d9 d10 hK' => nm_r (nI_1 k) (ih (k + 1) f' _ _ _ _ _ _ _ _ _ (by omega) (by omega) (ca_K_congr hK' (ca_ch_all hall))))
        exact ca_touches z (by omega) hr1 (by omega) hc1 (fun _ => br_f (by decide) W) (fun _ => br_f (by decide) W)
      · refine ca_touches z (by omega) hr1 (by omega) hc1 (fun _ => ?_) (fun hno => ?_)
        · refine br_t rfl (br_f (by decide) (ca_part hv hm z (by omega) hr1 (by omega) hc1 hK (fun f' d2 d3 d4 d5 d6 d7 d8 d9 d10 hK' => ?_)))
          exact nm_r (nI_1 k) (ih (k + 1) f' _ _ _ _ _ _ _ _ _ (by omega) (by omega) (ca_K_congr hK' ca_ch_pt))
        · exact br_t rfl (br_t rfl (nm_r (nI_1 k) (ih (k + 1) f _ _ _ _ _ _ _ _ _ (by omega) (by omega) (ca_K_congr hK (ca_ch_no hno)))))
theorem ca_add {post : Int32 → St2 → Prop} {v m r0 r1 c0 c1 : Nat} {x : Int32} {f g : Nat → Nat} {A B : Nat → Nat → Int32} (hv : v < 4) (hm : m ≤ 16) (hr0 : r0 ≤ r1) (hr1 : r1 < 16) (hc0 : c0 ≤ c1) (hc1 : c1 < 16) (hK : ca_K v m f g A B a2 a3 a4 a5 a6 a7 a8)
    (H : ∀ (f : Nat → Nat) (q0 q1 q2 q3 : Int32) (b2 b3 b4 b5 b6 b7 b8 b9 b10 : Nat → Int32), ca_K v m f g (ca_ch A x r0 r1 c0 c1 16) B b2 b3 b4 b5 b6 b7 b8 → post (nI ((r1 - r0 + 1) * (c1 - c0 + 1))) (q0, q1, q2, q3, a1, b2, b3, b4, b5, b6, b7, b8, b9, b10, a11)) :
    wpX_add post (q0, q1, q2, q3, a1, a2, a3, a4, a5, a6, a7, a8, a9, a10, a11) (nI (r0 + 16 * c0)) (nI (r1 + 16 * c1)) x := by
  unfold wpX_add wpX_change
  dsimp only
  refine ca_bad (by omega) (br_t rfl (ca_bad (by omega) (br_t rfl (ca_setRegion (by omega) hr1 (by omega) hc1 ?_))))
  rw [Nat.min_eq_left hr0, Nat.max_eq_right hr0, Nat.min_eq_left hc0, Nat.max_eq_right hc0]
  refine ⟨17, ca_change25 hv hm hr0 hr1 hc0 hc1 (fun f' b2 b3 b4 b5 b6 b7 b8 b9 b10 hK' => H f' _ _ _ _ _ _ _ _ _ _ _ _ _ hK') 17 0 f _ _ _ _ _ _ _ _ _ (by omega) (by omega) (ca_K_congr hK (fun r c _ _ => ?_))⟩
  unfold ca_ch
  rw [if_neg (by omega)]
end
end
section
/-! partSum, wholeSum, sum -/
def ca_ps (A : Nat → Nat → Int32) (r0 r1 c0 c1 k : Nat) : Nat → Int32
  | 0 => 0
  | i + 1 => ca_ps A r0 r1 c0 c1 k i + (if r0 ≤ k / 4 * 4 + i / 4 ∧ k / 4 * 4 + i / 4 ≤ r1 ∧ c0 ≤ k % 4 * 4 + i % 4 ∧ k % 4 * 4 + i % 4 ≤ c1 then A (k / 4 * 4 + i / 4) (k % 4 * 4 + i % 4) else 0)
def ca_ts (A : Nat → Nat → Int32) (r0 r1 c0 c1 : Nat) : Nat → Int32
  | 0 => 0
  | k + 1 => ca_ts A r0 r1 c0 c1 k + ca_ps A r0 r1 c0 c1 k 16
section
variable {q0 q1 q2 q3 : Int32} {a1 a2 a3 a4 a5 a6 a7 a8 a9 a10 a11 : Nat → Int32}
theorem ca_partSum4 {post : Int32 → Prop} {v m k r0 r1 c0 c1 : Nat} {f g : Nat → Nat} {A B : Nat → Nat → Int32} (hk : k < 16) (hr0 : r0 < 16) (hr1 : r1 < 16) (hc0 : c0 < 16) (hc1 : c1 < 16) (hK : ca_K v m f g A B a2 a3 a4 a5 a6 a7 a8) (H : post (ca_ps A r0 r1 c0 c1 k 16)) :
    ∀ (n i : Nat), i ≤ 16 → 16 - i < n → wX_partSum_4 post (nI k) (nI r0) (nI r1) (nI c0) (nI c1) a1 a2 a3 a4 a5 a6 a7 a8 a9 a10 a11 n (ca_ps A r0 r1 c0 c1 k i) (nI i) := by
  intro n
  induction n with
  | zero => intro i h1 h2; omega
  | succ n ih =>
    intro i h1 h2
    refine pk_le 16 i (fun z => ?_) (fun z => ?_)
    · rw [show i = 16 by omega]
      exact H
    · obtain ⟨e1, e2, hr, hc⟩ := ca_rc hk z
      have t := ih (i + 1) (by omega) (by omega)
      unfold ca_ps at t
      refine ⟨ca_ne4, ca_ne4, nm_r (ca_rI k hk i z) ⟨ca_ne4, ca_ne4, nm_r (ca_cI k hk i z) (ca_inRegion hr hc hr0 hr1 hc0 hc1 (fun hin => ?_) (fun hout => ?_))⟩⟩
      · rw [if_pos hin] at t
        exact br_f (by decide) (ca_readP hK hr hc (nm_e (nm_r (nI_1 i) t)))
      · rw [if_neg hout, Int32.add_zero] at t
        exact br_t rfl (nm_r (nI_1 i) t)
theorem ca_partSum {post : Int32 → Prop} {v m k r0 r1 c0 c1 : Nat} {f g : Nat → Nat} {A B : Nat → Nat → Int32} (hk : k < 16) (hr0 : r0 < 16) (hr1 : r1 < 16) (hc0 : c0 < 16) (hc1 : c1 < 16) (hK : ca_K v m f g A B a2 a3 a4 a5 a6 a7 a8) (H : post (ca_ps A r0 r1 c0 c1 k 16)) :
    wpX_partSum post (nI r0, nI r1, nI c0, nI c1, a1, a2, a3, a4, a5, a6, a7, a8, a9, a10, a11) (nI k) :=
  ⟨17, ca_partSum4 hk hr0 hr1 hc0 hc1 hK H 17 0 (by omega) (by omega)⟩
theorem ca_ring1 (S F N G x : Int32) : (S * F + N * G) + (x * F + G) = (S + x) * F + (N + 1) * G := by grind
theorem ca_ps_all {v m k r0 r1 c0 c1 : Nat} {f g : Nat → Nat} {A B : Nat → Nat → Int32} (hk : k < 16) (hK : ca_K v m f g A B a2 a3 a4 a5 a6 a7 a8) (hall : r0 ≤ k / 4 * 4 ∧ k / 4 * 4 + 3 ≤ r1 ∧ c0 ≤ k % 4 * 4 ∧ k % 4 * 4 + 3 ≤ c1) :
    ∀ n, n ≤ 16 → ca_ps A r0 r1 c0 c1 k n = ca_S a4 (f k) n * a5 (f k) + nI n * a6 (f k) := by
  intro n
  induction n with
  | zero =>
    intro _
    show (0 : Int32) = 0 * a5 (f k) + 0 * a6 (f k)
    grind
  | succ n ih =>
    intro hn
    obtain ⟨e1, e2, hr, hc⟩ := ca_rc hk (show n < 16 by omega)
    have t := hK.2.2.2.1 _ _ hr hc
    rw [e1, e2] at t
    unfold ca_ps
    rw [if_pos (by omega), ih (by omega), ← t, nI_succ]
    exact ca_ring1 _ _ _ _ _
theorem ca_K_78 {v m : Nat} {f g : Nat → Nat} {A B : Nat → Nat → Int32} {b7 b8 : Nat → Int32} (hK : ca_K v m f g A B a2 a3 a4 a5 a6 a7 a8) (h : ∀ s, s < 80 → b7 s ≠ 0 → b8 s = ca_S a4 s 16) : ca_K v m f g A B a2 a3 a4 a5 a6 b7 b8 :=
  ⟨hK.1, hK.2.1, hK.2.2.1, hK.2.2.2.1, hK.2.2.2.2.1, h⟩
theorem ca_ws53 {post : Int32 → St2 → Prop} {s : Nat} (hs : s < 80) (H : post (a8 s * a5 s + 16 * a6 s) (q0, q1, q2, q3, a1, a2, a3, a4, a5, a6, a7, a8, a9, a10, a11)) : wX_wholeSum_53 post (nI s) q0 q1 q2 q3 a1 a2 a3 a4 a5 a6 a7 a8 a9 a10 a11 := by
  have vs : vp_in (nI s) 80 := vp_in_nI hs (by omega)
  unfold wX_wholeSum_53
  rw [nI_clamp (show s < 2 ^ 31 by omega)]
  exact ⟨vs, vs, vs, H⟩
theorem ca_ws13 {post : Int32 → St2 → Prop} {s : Nat} (hs : s < 80) (H : post (ca_S a4 s 16 * a5 s + 16 * a6 s) (q0, q1, q2, q3, a1, a2, a3, a4, a5, a6, upd a7 s 1, upd a8 s (ca_S a4 s 16), a9, a10, a11)) :
    ∀ (n i : Nat), i ≤ 16 → 16 - i < n → wX_wholeSum_13 post (nI s) q0 q1 q2 q3 a1 a2 a3 a4 a5 a6 a7 a8 a9 a10 a11 n (ca_S a4 s i) (nI i) := by
  have vs : vp_in (nI s) 80 := vp_in_nI hs (by omega)
  have hsl : (nI s).toNatClampNeg = s := nI_clamp (by omega)
  intro n
  induction n with
  | zero => intro i h1 h2; omega
  | succ n ih =>
    intro i h1 h2
    refine pk_le 16 i (fun z => ?_) (fun z => ?_)
    · rw [show i = 16 by omega, hsl]
      refine ⟨vs, nm_e ⟨vs, nm_e (ca_ws53 hs ?_)⟩⟩
      rw [pk_us]
      exact H
    · have t := ih (i + 1) (by omega) (by omega)
      refine ⟨pk_in (s * 16 + i) 1280 (by omega) (ca_m16 s i), nm_r (e' := ca_S a4 s i + a4 (s * 16 + i)) ?_ (nm_r (nI_1 i) t)⟩
      rw [ca_m16, nI_clamp (by omega)]
theorem ca_wholeSum {post : Int32 → St2 → Prop} {v m s : Nat} {f g : Nat → Nat} {A B : Nat → Nat → Int32} (hs : s < 80) (hK : ca_K v m f g A B a2 a3 a4 a5 a6 a7 a8)
    (H : ∀ (b7 b8 : Nat → Int32), ca_K v m f g A B a2 a3 a4 a5 a6 b7 b8 → post (ca_S a4 s 16 * a5 s + 16 * a6 s) (q0, q1, q2, q3, a1, a2, a3, a4, a5, a6, b7, b8, a9, a10, a11)) :
    wpX_wholeSum post (q0, q1, q2, q3, a1, a2, a3, a4, a5, a6, a7, a8, a9, a10, a11) (nI s) := by
  have vs : vp_in (nI s) 80 := vp_in_nI hs (by omega)
  unfold wpX_wholeSum
  dsimp only
  rw [nI_clamp (show s < 2 ^ 31 by omega)]
  refine ⟨vs, br_c (fun _ => ⟨17, ca_ws13 hs (H _ _ (ca_K_78 hK (fun t ht h => ?_))) 17 0 (by omega) (by omega)⟩) (fun h => ca_ws53 hs ?_)⟩
  · by_cases e : t = s
    · rw [e, pk_us]
    · rw [pk_un e] at h
      rw [pk_un e]
      exact hK.2.2.2.2.2 t ht h
  · rw [hK.2.2.2.2.2 s hs h]
    exact H _ _ hK
theorem ca_ps_not {A : Nat → Nat → Int32} {k r0 r1 c0 c1 : Nat} (hk : k < 16) (hno : ¬ (r0 ≤ k / 4 * 4 + 3 ∧ k / 4 * 4 ≤ r1 ∧ c0 ≤ k % 4 * 4 + 3 ∧ k % 4 * 4 ≤ c1)) : ∀ n, n ≤ 16 → ca_ps A r0 r1 c0 c1 k n = 0 := by
  intro n
  induction n with
  | zero => intro _; rfl
  | succ n ih =>
    intro hn
    unfold ca_ps
    rw [if_neg (by omega), ih (by omega), Int32.add_zero]
theorem ca_sum27 {post : Int32 → St2 → Prop} {v m r0 r1 c0 c1 : Nat} {f g : Nat → Nat} {A B : Nat → Nat → Int32} (hr0 : r0 < 16) (hr1 : r1 < 16) (hc0 : c0 < 16) (hc1 : c1 < 16)
    (H : ∀ (b7 b8 : Nat → Int32), ca_K v m f g A B a2 a3 a4 a5 a6 b7 b8 → post (ca_ts A r0 r1 c0 c1 16) (nI r0, nI r1, nI c0, nI c1, a1, a2, a3, a4, a5, a6, b7, b8, a9, a10, a11)) :
    ∀ (n k : Nat) (b7 b8 : Nat → Int32), k ≤ 16 → 16 - k < n → ca_K v m f g A B a2 a3 a4 a5 a6 b7 b8 → wX_sum_27 post n (ca_ts A r0 r1 c0 c1 k) (nI k) (nI r0) (nI r1) (nI c0) (nI c1) a1 a2 a3 a4 a5 a6 b7 b8 a9 a10 a11 := by
  intro n
  induction n with
  | zero => intro k b7 b8 h1 h2; omega
  | succ n ih =>
    intro k b7 b8 h1 h2 hK
    refine pk_le 16 k (fun z => ?_) (fun z => ?_)
    · rw [show k = 16 by omega]
      exact H _ _ hK
    · refine ca_covers z hr0 hr1 hc0 hc1 (fun hall => ?_) (fun hnot => ?_)
      · have e64 : (64 + nI k).toNatClampNeg = 64 + k := pk_cl (64 + k) (ca_64 k)
        have hf := hK.1 k z
        have W : wpX_wholeSum (fun r u => match u with | (f0_row0, f0_row1, f0_column0, f0_column1, e1, e2, e3, e4, e5, e6, e7, e8, e9, e10, e11) => (∀ x3 : Int32, x3 = ca_ts A r0 r1 c0 c1 k + r → (∀ x4 : Int32, x4 = nI k + 1 → (wX_sum_27 post n x3 x4 f0_row0 f0_row1 f0_column0 f0_column1 e1 e2 e3 e4 e5 e6 e7 e8 e9 e10 e11)))) (nI r0, nI r1, nI c0, nI c1, a1, a2, a3, a4, a5, a6, b7, b8, a9, a10, a11) (a2 (64 + nI k).toNatClampNeg) := by
          rw [e64, hf.2]
          refine ca_wholeSum hf.1 hK (fun d7 d8 hK' => nm_r (e' := ca_ts A r0 r1 c0 c1 (k + 1)) ?_ (nm_r (nI_1 k) (ih (k + 1) d7 d8 (by omega) (by omega) hK')))
          show _ = ca_ts A r0 r1 c0 c1 k + ca_ps A r0 r1 c0 c1 k 16
          rw [ca_ps_all z hK hall 16 (by omega)]
          rfl
        have v64 : vp_in (64 + nI k) 80 := pk_in (64 + k) 80 (by omega) (ca_64 k)
        exact ca_touches z hr0 hr1 hc0 hc1 (fun _ => br_f (by decide) ⟨v64, W⟩) (fun _ => br_f (by decide) ⟨v64, W⟩)
      · refine ca_touches z hr0 hr1 hc0 hc1 (fun _ => ?_) (fun hno => ?_)
        · exact br_t rfl (br_f (by decide) (ca_partSum z hr0 hr1 hc0 hc1 hK (nm_e (nm_r (nI_1 k) (ih (k + 1) b7 b8 (by omega) (by omega) hK)))))
        · have t := ih (k + 1) b7 b8 (by omega) (by omega) hK
          unfold ca_ts at t
          rw [ca_ps_not z hno 16 (by omega), Int32.add_zero] at t
          exact br_t rfl (br_t rfl (nm_r (nI_1 k) t))
/-- sum of a region, its far corner given first -/
theorem ca_sum {post : Int32 → St2 → Prop} {v m r0 r1 c0 c1 : Nat} {f g : Nat → Nat} {A B : Nat → Nat → Int32} (hr0 : r0 ≤ r1) (hr1 : r1 < 16) (hc0 : c0 ≤ c1) (hc1 : c1 < 16) (hK : ca_K v m f g A B a2 a3 a4 a5 a6 a7 a8)
    (H : ∀ (q0 q1 q2 q3 : Int32) (b7 b8 : Nat → Int32), ca_K v m f g A B a2 a3 a4 a5 a6 b7 b8 → post (ca_ts A r0 r1 c0 c1 16) (q0, q1, q2, q3, a1, a2, a3, a4, a5, a6, b7, b8, a9, a10, a11)) :
    wpX_sum post (q0, q1, q2, q3, a1, a2, a3, a4, a5, a6, a7, a8, a9, a10, a11) (nI (r1 + 16 * c1)) (nI (r0 + 16 * c0)) := by
  unfold wpX_sum
  dsimp only
  refine ca_bad (by omega) (br_t rfl (ca_bad (by omega) (br_t rfl (ca_setRegion hr1 (by omega) hc1 (by omega) ?_))))
  rw [Nat.min_eq_right hr0, Nat.max_eq_left hr0, Nat.min_eq_right hc0, Nat.max_eq_left hc0]
  exact ⟨17, ca_sum27 (by omega) hr1 (by omega) hc1 (fun b7 b8 hK' => H _ _ _ _ _ _ hK') 17 0 _ _ (by omega) (by omega) hK⟩
end
end
section
/-! keep, differ, restore, drop, get, getOf -/
def ca_dn (P Q : Nat → Int32) : Nat → Nat
  | 0 => 0
  | n + 1 => ca_dn P Q n + (if P n = Q n then 0 else 1)
theorem ca_dn_le {P Q : Nat → Int32} : ∀ n, ca_dn P Q n ≤ n := by
  intro n
  induction n with
  | zero => exact Nat.le_refl 0
  | succ n ih =>
    show ca_dn P Q n + (if P n = Q n then 0 else 1) ≤ n + 1
    split <;> omega
def ca_da (A B : Nat → Nat → Int32) (f g : Nat → Nat) (k : Nat) : Nat :=
  if g k = f k then 0 else ca_dn (fun i => B (k / 4 * 4 + i / 4) (k % 4 * 4 + i % 4)) (fun i => A (k / 4 * 4 + i / 4) (k % 4 * 4 + i % 4)) 16
def ca_ds (A B : Nat → Nat → Int32) (f g : Nat → Nat) : Nat → Nat
  | 0 => 0
  | k + 1 => ca_ds A B f g k + ca_da A B f g k
theorem ca_ds_le {A B : Nat → Nat → Int32} {f g : Nat → Nat} : ∀ n, ca_ds A B f g n ≤ 16 * n := by
  intro n
  induction n with
  | zero => exact Nat.le_refl 0
  | succ n ih =>
    have t : ca_da A B f g n ≤ 16 := by
      unfold ca_da
      split
      · omega
      · exact ca_dn_le 16
    show ca_ds A B f g n + ca_da A B f g n ≤ 16 * (n + 1)
    omega
theorem ca_ds_0 {A B : Nat → Nat → Int32} {f g : Nat → Nat} : ∀ n, (∀ k, k < n → g k = f k) → ca_ds A B f g n = 0 := by
  intro n
  induction n with
  | zero => intro _; rfl
  | succ n ih =>
    intro h
    show ca_ds A B f g n + ca_da A B f g n = 0
    rw [ih (fun k hk => h k (by omega))]
    unfold ca_da
    rw [if_pos (h n (by omega))]
theorem ca_K_keep {v i : Nat} {f : Nat → Nat} {A : Nat → Nat → Int32} {a2 a3 a4 a5 a6 a7 a8 : Nat → Int32} (hv : v < 4) (hi : i < 16) (hK : ca_K v i f f A A a2 a3 a4 a5 a6 a7 a8) :
    ca_K v (i + 1) f f A A (upd a2 (v * 16 + i) (nI (f i))) (upd a3 (f i) (a3 (f i) + 1)) a4 a5 a6 a7 a8 := by
  obtain ⟨k1, k2, k3, k4, k5, k6⟩ := hK
  refine ⟨fun k hk => ?_, fun k hk => ?_, fun s hs => ?_, k4, fun r c hr hc _ => k4 r c hr hc, k6⟩
  · rw [pk_un (by omega)]
    exact k1 k hk
  · refine ⟨(k1 k (by omega)).1, ?_⟩
    by_cases e : k = i
    · rw [e, pk_us]
    · rw [pk_un (by omega)]
      exact (k2 k (by omega)).2
  · show _ = nI (ca_cn f s 16 + (ca_cn f s i + (if f i = s then 1 else 0)))
    by_cases e : s = f i
    · rw [e, pk_us, k3 _ (e ▸ hs), if_pos rfl, nI_1]
      congr 1
    · rw [pk_un e, k3 s hs, if_neg (show ¬ f i = s from fun z => e z.symm)]
      congr 1
theorem ca_K_re {v i : Nat} {f g : Nat → Nat} {A B : Nat → Nat → Int32} {a2 a3 a4 a5 a6 a7 a8 : Nat → Int32} (hv : v < 4) (hi : i < 16) (hK : ca_K v 16 f g A B a2 a3 a4 a5 a6 a7 a8) :
    ca_K v 16 (ca_fu f i (g i)) g (fun r c => if ca_pl r c = i then B r c else A r c) B (upd a2 (64 + i) (nI (g i))) (upd (upd a3 (f i) (a3 (f i) - 1)) (g i) (upd a3 (f i) (a3 (f i) - 1) (g i) + 1)) a4 a5 a6 a7 a8 := by
  obtain ⟨k1, k2, k3, k4, k5, k6⟩ := hK
  refine ⟨fun k hk => ?_, fun k hk => ?_, fun s hs => ?_, fun r c hr hc => ?_, k5, k6⟩
  · by_cases e : k = i
    · rw [e, ca_fu_s, pk_us]
      exact ⟨(k2 i hi).1, rfl⟩
    · rw [ca_fu_n e, pk_un (by omega)]
      exact k1 k hk
  · rw [pk_un (by omega)]
    exact k2 k hk
  · have t := ca_cn_up (f := f) (p := i) (d := g i) (s := s) 16 hi
    by_cases e : s = g i
    · rw [if_pos e.symm, ← e] at t
      rw [← e, pk_us]
      by_cases e2 : s = f i
      · rw [if_pos e2.symm] at t
        rw [← e2, pk_us, show a3 s - 1 + 1 = a3 s by grind, k3 s hs]
        congr 1
        omega
      · rw [if_neg (show ¬ f i = s from fun z => e2 z.symm)] at t
        rw [pk_un e2, k3 s hs, nI_1]
        congr 1
        omega
    · rw [if_neg (show ¬ g i = s from fun z => e z.symm)] at t
      rw [pk_un e]
      by_cases e2 : s = f i
      · have h1 := ca_cn_pos (f := f) hi e2.symm
        rw [if_pos e2.symm] at t
        rw [← e2, pk_us, k3 s hs, ca_sub1 (by omega)]
        congr 1
        omega
      · rw [if_neg (show ¬ f i = s from fun z => e2 z.symm)] at t
        rw [pk_un e2, k3 s hs]
        congr 1
        omega
  · show _ = if ca_pl r c = i then B r c else A r c
    by_cases e : ca_pl r c = i
    · rw [if_pos e, ← k5 r c hr hc (ca_pl_lt hr hc), e, ca_fu_s]
    · rw [if_neg e, ca_fu_n e]
      exact k4 r c hr hc
theorem ca_K_fg {v : Nat} {f g : Nat → Nat} {A B : Nat → Nat → Int32} {a2 a3 a4 a5 a6 a7 a8 : Nat → Int32} (hK : ca_K v 16 f g A B a2 a3 a4 a5 a6 a7 a8) (hf : ∀ k, k < 16 → f k = g k) (hA : ∀ r c, r < 16 → c < 16 → A r c = B r c) : ca_K v 16 g g B B a2 a3 a4 a5 a6 a7 a8 := by
  obtain ⟨k1, k2, k3, k4, k5, k6⟩ := hK
  refine ⟨fun k hk => ?_, k2, fun s hs => ?_, fun r c hr hc => k5 r c hr hc (ca_pl_lt hr hc), k5, k6⟩
  · rw [← hf k hk]
    exact k1 k hk
  · rw [k3 s hs, ca_cn_congr 16 hf]
section
variable {q0 q1 q2 q3 : Int32} {a1 a2 a3 a4 a5 a6 a7 a8 a9 a10 a11 : Nat → Int32}
theorem ca_keep33 {post : Int32 → St2 → Prop} {v : Nat} {f : Nat → Nat} {A : Nat → Nat → Int32} (hv : v < 4)
    (H : ∀ (b2 b3 : Nat → Int32), ca_K v 16 f f A A b2 b3 a4 a5 a6 a7 a8 → post 0 (q0, q1, q2, q3, a1, b2, b3, a4, a5, a6, a7, a8, a9, a10, a11)) :
    ∀ (n i : Nat) (b2 b3 : Nat → Int32), i ≤ 16 → 16 - i < n → ca_K v i f f A A b2 b3 a4 a5 a6 a7 a8 → wX_keep_33 post (nI v) q0 q1 q2 q3 n (nI i) a1 b2 b3 a4 a5 a6 a7 a8 a9 a10 a11 := by
  intro n
  induction n with
  | zero => intro i b2 b3 h1 h2; omega
  | succ n ih =>
    intro i b2 b3 h1 h2 hK
    refine pk_le 16 i (fun z => ?_) (fun z => ?_)
    · rw [show i = 16 by omega] at hK
      exact H _ _ hK
    · have hf := hK.1 i z
      have vf : vp_in (nI (f i)) 80 := vp_in_nI hf.1 (by omega)
      have e1 : (64 + nI i).toNatClampNeg = 64 + i := pk_cl (64 + i) (ca_64 i)
      have e2 : (nI v * 16 + nI i).toNatClampNeg = v * 16 + i := pk_cl (v * 16 + i) (ca_m16 v i)
      have e3 : (nI (f i)).toNatClampNeg = f i := nI_clamp (by omega)
      refine ⟨pk_in (64 + i) 80 (by omega) (ca_64 i), nm_r (e' := nI (f i)) (by rw [e1, hf.2]) ⟨pk_in (v * 16 + i) 80 (by omega) (ca_m16 v i), ?_⟩⟩
      rw [e2, e3]
      exact nm_e ⟨vf, vf, nm_e (nm_r (nI_1 i) (ih (i + 1) _ _ (by omega) (by omega) (ca_K_keep hv z hK)))⟩
theorem ca_keep {post : Int32 → St2 → Prop} {v : Nat} {f g : Nat → Nat} {A B : Nat → Nat → Int32} (hv : v < 4) (h1 : a1 v = 0) (hK : ca_K v 0 f g A B a2 a3 a4 a5 a6 a7 a8)
    (H : ∀ (b2 b3 : Nat → Int32), ca_K v 16 f f A A b2 b3 a4 a5 a6 a7 a8 → post 0 (q0, q1, q2, q3, upd a1 v 1, b2, b3, a4, a5, a6, a7, a8, a9, a10, a11)) :
    wpX_keep post (q0, q1, q2, q3, a1, a2, a3, a4, a5, a6, a7, a8, a9, a10, a11) (nI v) := by
  have vv : vp_in (nI v) 5 := vp_in_nI (by omega) (by omega)
  unfold wpX_keep
  dsimp only
  rw [nI_clamp (show v < 2 ^ 31 by omega)]
  exact br_f (nI_pos (by omega)) (br_t (nI_le (b := 3) (by omega) (by omega)) ⟨vv, br_t h1 ⟨vv, nm_e ⟨17, ca_keep33 hv H 17 0 _ _ (by omega) (by omega)
    ⟨hK.1, fun k hk => absurd hk (by omega), hK.2.2.1, hK.2.2.2.1, fun r c _ _ hk => absurd hk (by omega), hK.2.2.2.2.2⟩⟩⟩⟩)
theorem ca_keepTaken {post : Int32 → St2 → Prop} {v : Nat} (hv : v < 4) (h1 : ¬ a1 v = 0) (H : post (-3) (q0, q1, q2, q3, a1, a2, a3, a4, a5, a6, a7, a8, a9, a10, a11)) :
    wpX_keep post (q0, q1, q2, q3, a1, a2, a3, a4, a5, a6, a7, a8, a9, a10, a11) (nI v) := by
  have vv : vp_in (nI v) 5 := vp_in_nI (by omega) (by omega)
  unfold wpX_keep
  dsimp only
  rw [nI_clamp (show v < 2 ^ 31 by omega)]
  exact br_f (nI_pos (by omega)) (br_t (nI_le (b := 3) (by omega) (by omega)) ⟨vv, br_f h1 H⟩)
theorem ca_noV1 {post : Int32 → Prop} {v : Nat} (hv : v < 4) (h1 : ¬ a1 v = 0) (H : post 0) : wpX_noVersion post (q0, q1, q2, q3, a1, a2, a3, a4, a5, a6, a7, a8, a9, a10, a11) (nI v) := by
  have vv : vp_in (nI v) 5 := vp_in_nI (by omega) (by omega)
  unfold wpX_noVersion
  dsimp only
  rw [nI_clamp (show v < 2 ^ 31 by omega)]
  exact br_f (nI_pos (by omega)) (br_f (nI_nlt (b := v) (a := 3) (by omega) (by omega)) ⟨vv, br_f h1 H⟩)
theorem ca_noV0 {post : Int32 → Prop} {v : Nat} (hv : v < 4) (h1 : a1 v = 0) (H : post 1) : wpX_noVersion post (q0, q1, q2, q3, a1, a2, a3, a4, a5, a6, a7, a8, a9, a10, a11) (nI v) := by
  have vv : vp_in (nI v) 5 := vp_in_nI (by omega) (by omega)
  unfold wpX_noVersion
  dsimp only
  rw [nI_clamp (show v < 2 ^ 31 by omega)]
  exact br_f (nI_pos (by omega)) (br_f (nI_nlt (b := v) (a := 3) (by omega) (by omega)) ⟨vv, br_t h1 H⟩)
theorem ca_dA30 {post : Int32 → Prop} {v k : Nat} {f g : Nat → Nat} {A B : Nat → Nat → Int32} (hv : v < 4) (hk : k < 16) (hK : ca_K v 16 f g A B a2 a3 a4 a5 a6 a7 a8)
    (H : post (nI (ca_dn (fun i => B (k / 4 * 4 + i / 4) (k % 4 * 4 + i % 4)) (fun i => A (k / 4 * 4 + i / 4) (k % 4 * 4 + i % 4)) 16))) :
    ∀ (n i : Nat), i ≤ 16 → 16 - i < n → wX_differAt_30 post (nI v) (nI k) q0 q1 q2 q3 a1 a2 a3 a4 a5 a6 a7 a8 a9 a10 a11 n (nI (ca_dn (fun i => B (k / 4 * 4 + i / 4) (k % 4 * 4 + i % 4)) (fun i => A (k / 4 * 4 + i / 4) (k % 4 * 4 + i % 4)) i)) (nI i) := by
  intro n
  induction n with
  | zero => intro i h1 h2; omega
  | succ n ih =>
    intro i h1 h2
    refine pk_le 16 i (fun z => ?_) (fun z => ?_)
    · rw [show i = 16 by omega]
      exact H
    · obtain ⟨e1, e2, hr, hc⟩ := ca_rc hk z
      have t := ih (i + 1) (by omega) (by omega)
      unfold ca_dn at t
      refine ⟨ca_ne4, ca_ne4, nm_r (ca_rI k hk i z) ⟨ca_ne4, ca_ne4, nm_r (ca_cI k hk i z) (ca_readV hK hv hr hc (ca_readP hK hr hc (br_c (fun he => ?_) (fun he => ?_))))⟩⟩
      · rw [if_pos he] at t
        exact nm_r (nI_1 i) t
      · rw [if_neg he] at t
        exact nm_r (nI_1 _) (nm_r (nI_1 i) t)
theorem ca_differAt {post : Int32 → Prop} {v k : Nat} {f g : Nat → Nat} {A B : Nat → Nat → Int32} (hv : v < 4) (hk : k < 16) (hK : ca_K v 16 f g A B a2 a3 a4 a5 a6 a7 a8) (H : post (nI (ca_da A B f g k))) :
    wpX_differAt post (q0, q1, q2, q3, a1, a2, a3, a4, a5, a6, a7, a8, a9, a10, a11) (nI v) (nI k) := by
  have hf := hK.1 k hk
  have hg := hK.2.1 k hk
  unfold wpX_differAt
  dsimp only
  rw [ca_64, ca_m16, nI_clamp (show v * 16 + k < 2 ^ 31 by omega), nI_clamp (show 64 + k < 2 ^ 31 by omega), hf.2, hg.2]
  refine ⟨vp_in_nI (by omega) (by omega), vp_in_nI (by omega) (by omega), ?_⟩
  unfold ca_da at H
  refine pk_eq (g k) (f k) (fun z => ?_) (fun z => ?_)
  · rw [if_pos z] at H
    exact H
  · rw [if_neg z] at H
    exact ⟨17, ca_dA30 hv hk hK H 17 0 (by omega) (by omega)⟩
theorem ca_diff4 {post : Int32 → Prop} {v : Nat} {f g : Nat → Nat} {A B : Nat → Nat → Int32} (hv : v < 4) (hK : ca_K v 16 f g A B a2 a3 a4 a5 a6 a7 a8) (H : post (nI (ca_ds A B f g 16))) :
    ∀ (n k : Nat), k ≤ 16 → 16 - k < n → wX_differences_4 post (nI v) q0 q1 q2 q3 a1 a2 a3 a4 a5 a6 a7 a8 a9 a10 a11 n (nI (ca_ds A B f g k)) (nI k) := by
  intro n
  induction n with
  | zero => intro i h1 h2; omega
  | succ n ih =>
    intro k h1 h2
    refine pk_le 16 k (fun z => ?_) (fun z => ?_)
    · rw [show k = 16 by omega]
      exact H
    · exact ca_differAt hv z hK (nm_r (nI_add _ _) (nm_r (nI_1 k) (ih (k + 1) (by omega) (by omega))))
theorem ca_differences {post : Int32 → Prop} {v : Nat} {f g : Nat → Nat} {A B : Nat → Nat → Int32} (hv : v < 4) (hK : ca_K v 16 f g A B a2 a3 a4 a5 a6 a7 a8) (H : post (nI (ca_ds A B f g 16))) :
    wpX_differences post (q0, q1, q2, q3, a1, a2, a3, a4, a5, a6, a7, a8, a9, a10, a11) (nI v) :=
  ⟨17, ca_diff4 hv hK H 17 0 (by omega) (by omega)⟩
theorem ca_differ {post : Int32 → Prop} {v : Nat} {f g : Nat → Nat} {A B : Nat → Nat → Int32} (hv : v < 4) (h1 : ¬ a1 v = 0) (hK : ca_K v 16 f g A B a2 a3 a4 a5 a6 a7 a8) (H : post (nI (ca_ds A B f g 16))) :
    wpX_differ post (q0, q1, q2, q3, a1, a2, a3, a4, a5, a6, a7, a8, a9, a10, a11) (nI v) := by
  unfold wpX_differ
  dsimp only
  exact ca_noV1 hv h1 (br_t rfl (ca_differences hv hK H))
theorem ca_rest19 {post : Int32 → St2 → Prop} {v : Nat} {x2 : Int32} {g : Nat → Nat} {B : Nat → Nat → Int32} (hv : v < 4)
    (H : ∀ (b2 b3 : Nat → Int32), ca_K v 16 g g B B b2 b3 a4 a5 a6 a7 a8 → post x2 (q0, q1, q2, q3, a1, b2, b3, a4, a5, a6, a7, a8, a9, a10, a11)) :
    ∀ (n i : Nat) (f : Nat → Nat) (A : Nat → Nat → Int32) (b2 b3 : Nat → Int32), i ≤ 16 → 16 - i < n → (∀ k, k < i → f k = g k) → (∀ r c, r < 16 → c < 16 → ca_pl r c < i → A r c = B r c) → ca_K v 16 f g A B b2 b3 a4 a5 a6 a7 a8 →
      wX_restore_19 post (nI v) x2 q0 q1 q2 q3 n (nI i) a1 b2 b3 a4 a5 a6 a7 a8 a9 a10 a11 := by
  intro n
  induction n with
  | zero => intro i f A b2 b3 h1 h2; omega
  | succ n ih =>
    intro i f A b2 b3 h1 h2 hfg hAB hK
    refine pk_le 16 i (fun z => ?_) (fun z => ?_)
    · rw [show i = 16 by omega] at hfg hAB
      exact H _ _ (ca_K_fg hK hfg (fun r c hr hc => hAB r c hr hc (ca_pl_lt hr hc)))
    · have hf := hK.1 i z
      have hg := hK.2.1 i z
      have vf : vp_in (nI (f i)) 80 := vp_in_nI hf.1 (by omega)
      have vg : vp_in (nI (g i)) 80 := vp_in_nI hg.1 (by omega)
      have v64 : vp_in (64 + nI i) 80 := pk_in (64 + i) 80 (by omega) (ca_64 i)
      have e1 : (64 + nI i).toNatClampNeg = 64 + i := pk_cl (64 + i) (ca_64 i)
      have e2 : (nI v * 16 + nI i).toNatClampNeg = v * 16 + i := pk_cl (v * 16 + i) (ca_m16 v i)
      have e3 : (nI (f i)).toNatClampNeg = f i := nI_clamp (by omega)
      have e4 : (nI (g i)).toNatClampNeg = g i := nI_clamp (by omega)
      refine ⟨pk_in (v * 16 + i) 80 (by omega) (ca_m16 v i), nm_r (e' := nI (g i)) (by rw [e2, hg.2]) ?_⟩
      rw [e1, hf.2, e3, e4]
      refine ⟨v64, vf, vf, nm_e ⟨vg, vg, nm_e ⟨v64, nm_e (nm_r (nI_1 i) (ih (i + 1) (ca_fu f i (g i)) _ _ _ (by omega) (by omega) (fun k hk => ?_) (fun r c hr hc hpl => ?_) (ca_K_re hv z hK)))⟩⟩⟩
      · by_cases e : k = i
        · rw [e, ca_fu_s]
        · rw [ca_fu_n e]
          exact hfg k (by omega)
      · show (if ca_pl r c = i then B r c else A r c) = B r c
        by_cases e : ca_pl r c = i
        · rw [if_pos e]
        · rw [if_neg e]
          exact hAB r c hr hc (by omega)
theorem ca_restore {post : Int32 → St2 → Prop} {v : Nat} {f g : Nat → Nat} {A B : Nat → Nat → Int32} (hv : v < 4) (h1 : ¬ a1 v = 0) (hK : ca_K v 16 f g A B a2 a3 a4 a5 a6 a7 a8)
    (H : ∀ (b2 b3 : Nat → Int32), ca_K v 16 g g B B b2 b3 a4 a5 a6 a7 a8 → post (nI (ca_ds A B f g 16)) (q0, q1, q2, q3, a1, b2, b3, a4, a5, a6, a7, a8, a9, a10, a11)) :
    wpX_restore post (q0, q1, q2, q3, a1, a2, a3, a4, a5, a6, a7, a8, a9, a10, a11) (nI v) := by
  unfold wpX_restore
  dsimp only
  exact ca_noV1 hv h1 (br_t rfl (ca_differences hv hK ⟨17, ca_rest19 hv H 17 0 f A _ _ (by omega) (by omega) (fun k hk => absurd hk (by omega)) (fun r c _ _ hk => absurd hk (by omega)) hK⟩))
theorem ca_ring2 (b x : Int32) : (b - 1) + (x + 1) = b + x := by grind
theorem ca_ring3 {b x y : Int32} (h : b + x = y + x) : b = y := by grind
theorem ca_drop20 {post : Int32 → St2 → Prop} {v : Nat} {f g : Nat → Nat} {A B : Nat → Nat → Int32} (hv : v < 4) (hK : ca_K v 16 f g A B a2 a3 a4 a5 a6 a7 a8)
    (H : ∀ (b3 : Nat → Int32), ca_K v 0 f g A B a2 b3 a4 a5 a6 a7 a8 → post 0 (q0, q1, q2, q3, a1, a2, b3, a4, a5, a6, a7, a8, a9, a10, a11)) :
    ∀ (n i : Nat) (b3 : Nat → Int32), i ≤ 16 → 16 - i < n → (∀ s, s < 80 → b3 s + nI (ca_cn g s i) = a3 s) → wX_drop_20 post (nI v) q0 q1 q2 q3 n (nI i) a1 a2 b3 a4 a5 a6 a7 a8 a9 a10 a11 := by
  intro n
  induction n with
  | zero => intro i b3 h1 h2; omega
  | succ n ih =>
    intro i b3 h1 h2 h
    refine pk_le 16 i (fun z => ?_) (fun z => ?_)
    · rw [show i = 16 by omega] at h
      refine H _ ⟨hK.1, fun k hk => absurd hk (by omega), fun s hs => ?_, hK.2.2.2.1, fun r c _ _ hk => absurd hk (by omega), hK.2.2.2.2.2⟩
      have t := h s hs
      rw [hK.2.2.1 s hs, ← nI_add] at t
      exact ca_ring3 t
    · have hg := hK.2.1 i z
      have vg : vp_in (nI (g i)) 80 := vp_in_nI hg.1 (by omega)
      have e2 : (nI v * 16 + nI i).toNatClampNeg = v * 16 + i := pk_cl (v * 16 + i) (ca_m16 v i)
      have e4 : (nI (g i)).toNatClampNeg = g i := nI_clamp (by omega)
      refine ⟨pk_in (v * 16 + i) 80 (by omega) (ca_m16 v i), ?_⟩
      rw [e2, hg.2, e4]
      refine ⟨vg, vg, nm_e (nm_r (nI_1 i) (ih (i + 1) _ (by omega) (by omega) (fun s hs => ?_)))⟩
      rw [← h s hs]
      show _ + nI (ca_cn g s i + (if g i = s then 1 else 0)) = _
      by_cases e : s = g i
      · rw [e, pk_us, if_pos rfl, nI_succ]
        exact ca_ring2 _ _
      · rw [pk_un e, if_neg (show ¬ g i = s from fun z => e z.symm)]
        rfl
theorem ca_drop {post : Int32 → St2 → Prop} {v : Nat} {f g : Nat → Nat} {A B : Nat → Nat → Int32} (hv : v < 4) (h1 : ¬ a1 v = 0) (hK : ca_K v 16 f g A B a2 a3 a4 a5 a6 a7 a8)
    (H : ∀ (b3 : Nat → Int32), ca_K v 0 f g A B a2 b3 a4 a5 a6 a7 a8 → post 0 (q0, q1, q2, q3, upd a1 v 0, a2, b3, a4, a5, a6, a7, a8, a9, a10, a11)) :
    wpX_drop post (q0, q1, q2, q3, a1, a2, a3, a4, a5, a6, a7, a8, a9, a10, a11) (nI v) := by
  have vv : vp_in (nI v) 5 := vp_in_nI (by omega) (by omega)
  unfold wpX_drop
  dsimp only
  rw [nI_clamp (show v < 2 ^ 31 by omega)]
  refine ca_noV1 hv h1 (br_t rfl ⟨vv, nm_e ⟨17, ca_drop20 hv hK H 17 0 _ (by omega) (by omega) (fun s hs => ?_)⟩⟩)
  show a3 s + 0 = a3 s
  exact Int32.add_zero _
theorem ca_dropNo {post : Int32 → St2 → Prop} {v : Nat} (hv : v < 4) (h1 : a1 v = 0) (H : post (-2) (q0, q1, q2, q3, a1, a2, a3, a4, a5, a6, a7, a8, a9, a10, a11)) :
    wpX_drop post (q0, q1, q2, q3, a1, a2, a3, a4, a5, a6, a7, a8, a9, a10, a11) (nI v) := by
  unfold wpX_drop
  dsimp only
  exact ca_noV0 hv h1 (br_f (by decide) H)
theorem ca_get {post : Int32 → Prop} {v m r c : Nat} {f g : Nat → Nat} {A B : Nat → Nat → Int32} (hK : ca_K v m f g A B a2 a3 a4 a5 a6 a7 a8) (hr : r < 16) (hc : c < 16) (H : post (A r c)) :
    wpX_get post (q0, q1, q2, q3, a1, a2, a3, a4, a5, a6, a7, a8, a9, a10, a11) (nI (r + 16 * c)) := by
  unfold wpX_get
  dsimp only
  rw [ca_low r hr c hc, ca_high r hr c hc]
  exact ca_bad (by omega) (br_t rfl (ca_readP hK hr hc H))
theorem ca_getOf {post : Int32 → Prop} {v r c : Nat} {f g : Nat → Nat} {A B : Nat → Nat → Int32} (hv : v < 4) (h1 : ¬ a1 v = 0) (hK : ca_K v 16 f g A B a2 a3 a4 a5 a6 a7 a8) (hr : r < 16) (hc : c < 16) (H : post (B r c)) :
    wpX_getOf post (q0, q1, q2, q3, a1, a2, a3, a4, a5, a6, a7, a8, a9, a10, a11) (nI v) (nI (r + 16 * c)) := by
  unfold wpX_getOf
  dsimp only
  rw [ca_low r hr c hc, ca_high r hr c hc]
  exact ca_bad (by omega) (br_t rfl (ca_noV1 hv h1 (br_t rfl (ca_readV hK hv hr hc H))))
end
end
section
/-! copy -/
/-- i whole rows of C cells and j cells of the next one copied -/
def ca_cp (A : Nat → Nat → Int32) (r0 c0 tr tc C i j : Nat) : Nat → Nat → Int32 := fun r c =>
  if tr ≤ r ∧ tc ≤ c ∧ ((r - tr < i ∧ c - tc < C) ∨ (r - tr = i ∧ c - tc < j)) then A (r0 + (r - tr)) (c0 + (c - tc)) else A r c
theorem ca_ifc2 {p q : Prop} {hp : Decidable p} {hq : Decidable q} {x y : Int32} (h : p ↔ q) : (@ite Int32 p hp x y) = (@ite Int32 q hq x y) := ca_ifc h
theorem ca_cp_s {A : Nat → Nat → Int32} {r0 c0 tr tc C i j : Nat} :
    ∀ r c, r < 16 → c < 16 → ca_cp A r0 c0 tr tc C i (j + 1) r c = ca_up (ca_cp A r0 c0 tr tc C i j) (tr + i) (tc + j) (A (r0 + i) (c0 + j)) r c := by
  intro r c _ _
  unfold ca_up ca_cp
  by_cases e : r = tr + i ∧ c = tc + j
  · rw [if_pos e, if_pos (by omega), e.1, e.2, Nat.add_sub_cancel_left, Nat.add_sub_cancel_left]
  · rw [if_neg e]
    exact ca_ifc2 (by omega)
theorem ca_cp_r {A : Nat → Nat → Int32} {r0 c0 tr tc C i : Nat} :
    ∀ r c, r < 16 → c < 16 → ca_cp A r0 c0 tr tc C (i + 1) 0 r c = ca_cp A r0 c0 tr tc C i C r c := by
  intro r c _ _
  unfold ca_cp
  exact ca_ifc2 (by omega)
section
variable {q0 q1 q2 q3 : Int32} {a1 a2 a3 a4 a5 a6 a7 a8 a9 a10 a11 : Nat → Int32}
theorem ca_c148 {post : Int32 → St2 → Prop} {J : Int32 → Int32 → Int32 → Int32 → Int32 → Int32 → (Nat → Int32) → (Nat → Int32) → (Nat → Int32) → (Nat → Int32) → (Nat → Int32) → (Nat → Int32) → (Nat → Int32) → (Nat → Int32) → (Nat → Int32) → (Nat → Int32) → (Nat → Int32) → Prop}
    {v m r0 r1 c0 c1 tr tc C i : Nat} {g : Nat → Nat} {A B : Nat → Nat → Int32} (hv : v < 4) (hm : m ≤ 16) (hr1 : r1 < 16) (hc0 : c0 ≤ c1) (hc1 : c1 < 16) (htc : tc < 16)
    (hC : C ≤ c1 - c0 + 1 ∧ C ≤ 16 - tc ∧ (C = c1 - c0 + 1 ∨ C = 16 - tc)) (hi : r0 + i ≤ r1) (hti : tr + i < 16)
    (hM : ∀ r c, r0 ≤ r → r ≤ r1 → c0 ≤ c → c ≤ c1 → a11 (r * 16 + c) = A r c)
    (HJ : ∀ (f : Nat → Nat) (b2 b3 b4 b5 b6 b7 b8 b9 b10 : Nat → Int32), ca_K v m f g (ca_cp A r0 c0 tr tc C i C) B b2 b3 b4 b5 b6 b7 b8 → J (nI (i * C + C)) (nI (r0 + i + 1)) (nI r0) (nI r1) (nI c0) (nI c1) a1 b2 b3 b4 b5 b6 b7 b8 b9 b10 a11) :
    ∀ (n j : Nat) (f : Nat → Nat) (b2 b3 b4 b5 b6 b7 b8 b9 b10 : Nat → Int32), j ≤ C → C - j < n → ca_K v m f g (ca_cp A r0 c0 tr tc C i j) B b2 b3 b4 b5 b6 b7 b8 →
      wX_copy_148 post J (nI tr - nI r0) (nI tc - nI c0) (nI (r0 + i)) n (nI (i * C + j)) (nI (c0 + j)) (nI r0) (nI r1) (nI c0) (nI c1) a1 b2 b3 b4 b5 b6 b7 b8 b9 b10 a11 := by
  intro n
  induction n with
  | zero => intro j f b2 b3 b4 b5 b6 b7 b8 b9 b10 h1 h2; omega
  | succ n ih =>
    intro j f b2 b3 b4 b5 b6 b7 b8 b9 b10 h1 h2 hK
    refine pk_lt c1 (c0 + j) (fun z => ?_) (fun z => ?_)
    · rw [show j = C by omega] at hK ⊢
      exact nm_r (nI_1 _) (HJ f _ _ _ _ _ _ _ _ _ hK)
    · refine pk_le 16 (tc + j) (fun z2 => ?_) (fun z2 => ?_) rfl (ca_off c0 j tc)
      · rw [show j = C by omega] at hK ⊢
        exact nm_r (nI_1 _) (HJ f _ _ _ _ _ _ _ _ _ hK)
      · rw [ca_off, ca_off, ca_m16, nI_clamp (show (r0 + i) * 16 + (c0 + j) < 2 ^ 31 by omega), hM (r0 + i) (c0 + j) (by omega) hi (by omega) z]
        refine ⟨vp_in_nI (by omega) (by omega), ca_writeCell hv hm hti z2 hK (fun f' d2 d3 d4 d5 d6 d7 d8 d9 d10 hK' => ?_)⟩
        exact nm_r (nI_1 _) (nm_r (nI_1 _) (ih (j + 1) f' _ _ _ _ _ _ _ _ _ (by omega) (by omega) (ca_K_congr hK' ca_cp_s)))
theorem ca_c123 {post : Int32 → St2 → Prop} {v m r0 r1 c0 c1 tr tc C R : Nat} {g : Nat → Nat} {A B : Nat → Nat → Int32} (hv : v < 4) (hm : m ≤ 16) (hr0 : r0 ≤ r1) (hr1 : r1 < 16) (hc0 : c0 ≤ c1) (hc1 : c1 < 16) (htr : tr < 16) (htc : tc < 16)
    (hC : C ≤ c1 - c0 + 1 ∧ C ≤ 16 - tc ∧ (C = c1 - c0 + 1 ∨ C = 16 - tc)) (hR : R ≤ r1 - r0 + 1 ∧ R ≤ 16 - tr ∧ (R = r1 - r0 + 1 ∨ R = 16 - tr))
    (hM : ∀ r c, r0 ≤ r → r ≤ r1 → c0 ≤ c → c ≤ c1 → a11 (r * 16 + c) = A r c)
    (H : ∀ (f : Nat → Nat) (b2 b3 b4 b5 b6 b7 b8 b9 b10 : Nat → Int32), ca_K v m f g (ca_cp A r0 c0 tr tc C R 0) B b2 b3 b4 b5 b6 b7 b8 → post (nI (R * C)) (nI r0, nI r1, nI c0, nI c1, a1, b2, b3, b4, b5, b6, b7, b8, b9, b10, a11)) :
    ∀ (n i : Nat) (f : Nat → Nat) (b2 b3 b4 b5 b6 b7 b8 b9 b10 : Nat → Int32), i ≤ R → R - i < n → ca_K v m f g (ca_cp A r0 c0 tr tc C i 0) B b2 b3 b4 b5 b6 b7 b8 →
      wX_copy_123 post (nI tr - nI r0) (nI tc - nI c0) n (nI (i * C)) (nI (r0 + i)) (nI r0) (nI r1) (nI c0) (nI c1) a1 b2 b3 b4 b5 b6 b7 b8 b9 b10 a11 := by
  intro n
  induction n with
  | zero => intro i f b2 b3 b4 b5 b6 b7 b8 b9 b10 h1 h2; omega
  | succ n ih =>
    intro i f b2 b3 b4 b5 b6 b7 b8 b9 b10 h1 h2 hK
    refine pk_lt r1 (r0 + i) (fun z => ?_) (fun z => ?_)
    · rw [show i = R by omega] at hK ⊢
      exact H f _ _ _ _ _ _ _ _ _ hK
    · refine pk_le 16 (tr + i) (fun z2 => ?_) (fun z2 => ?_) rfl (ca_off r0 i tr)
      · rw [show i = R by omega] at hK ⊢
        exact H f _ _ _ _ _ _ _ _ _ hK
      · refine ⟨C + 1, ca_c148 hv hm hr1 hc0 hc1 htc hC z z2 hM (fun f' d2 d3 d4 d5 d6 d7 d8 d9 d10 hK' => ?_) (C + 1) 0 f _ _ _ _ _ _ _ _ _ (by omega) (by omega) hK⟩
        rw [← Nat.succ_mul]
        exact ih (i + 1) f' _ _ _ _ _ _ _ _ _ (by omega) (by omega) (ca_K_congr hK' ca_cp_r)
theorem ca_c71 {post : Int32 → St2 → Prop} {J : Int32 → (Nat → Int32) → (Nat → Int32) → (Nat → Int32) → (Nat → Int32) → (Nat → Int32) → (Nat → Int32) → (Nat → Int32) → (Nat → Int32) → (Nat → Int32) → (Nat → Int32) → (Nat → Int32) → Prop}
    {x4 x5 : Int32} {v m r r0 r1 c0 c1 : Nat} {f g : Nat → Nat} {A B : Nat → Nat → Int32} (hr : r < 16) (hr0 : r0 ≤ r) (hc1 : c1 < 16) (hK : ca_K v m f g A B a2 a3 a4 a5 a6 a7 a8)
    (HJ : ∀ b11 : Nat → Int32, (∀ r' c', r0 ≤ r' → r' < r + 1 → c0 ≤ c' → c' ≤ c1 → b11 (r' * 16 + c') = A r' c') → J (nI (r + 1)) a1 a2 a3 a4 a5 a6 a7 a8 a9 a10 b11) :
    ∀ (n c : Nat) (b11 : Nat → Int32), c0 ≤ c → c ≤ c1 + 1 → c1 + 1 - c < n → (∀ r' c', r0 ≤ r' → c0 ≤ c' → c' ≤ c1 → (r' < r ∨ (r' = r ∧ c' < c)) → b11 (r' * 16 + c') = A r' c') →
      wX_copy_71 post J x4 x5 (nI r) (nI r0) (nI r1) (nI c0) (nI c1) n (nI c) a1 a2 a3 a4 a5 a6 a7 a8 a9 a10 b11 := by
  intro n
  induction n with
  | zero => intro c b11 h0 h1 h2; omega
  | succ n ih =>
    intro c b11 h0 h1 h2 h
    refine pk_lt c1 c (fun z => ?_) (fun z => ?_)
    · exact nm_r (nI_1 r) (HJ b11 (fun r' c' g1 g2 g3 g4 => h r' c' g1 g3 g4 (by omega)))
    · refine ca_readP hK hr (show c < 16 by omega) ?_
      rw [ca_m16, nI_clamp (show r * 16 + c < 2 ^ 31 by omega)]
      refine ⟨vp_in_nI (by omega) (by omega), nm_e (nm_r (nI_1 c) (ih (c + 1) _ (by omega) (by omega) (by omega) (fun r' c' g1 g2 g3 g4 => ?_)))⟩
      by_cases e : r' = r ∧ c' = c
      · rw [e.1, e.2, pk_us]
      · rw [pk_un (by omega)]
        exact h r' c' g1 g2 g3 (by omega)
theorem ca_c56 {post : Int32 → St2 → Prop} {x4 x5 : Int32} {v m r0 r1 c0 c1 : Nat} {f g : Nat → Nat} {A B : Nat → Nat → Int32} (hr1 : r1 < 16) (hc0 : c0 ≤ c1) (hc1 : c1 < 16) (hK : ca_K v m f g A B a2 a3 a4 a5 a6 a7 a8)
    (H : ∀ b11 : Nat → Int32, (∀ r c, r0 ≤ r → r ≤ r1 → c0 ≤ c → c ≤ c1 → b11 (r * 16 + c) = A r c) → ∃ n, wX_copy_123 post x4 x5 n 0 (nI r0) (nI r0) (nI r1) (nI c0) (nI c1) a1 a2 a3 a4 a5 a6 a7 a8 a9 a10 b11) :
    ∀ (n r : Nat) (b11 : Nat → Int32), r0 ≤ r → r ≤ r1 + 1 → r1 + 1 - r < n → (∀ r' c', r0 ≤ r' → r' < r → c0 ≤ c' → c' ≤ c1 → b11 (r' * 16 + c') = A r' c') →
      wX_copy_56 post x4 x5 (nI r0) (nI r1) (nI c0) (nI c1) n (nI r) a1 a2 a3 a4 a5 a6 a7 a8 a9 a10 b11 := by
  intro n
  induction n with
  | zero => intro r b11 h0 h1 h2; omega
  | succ n ih =>
    intro r b11 h0 h1 h2 h
    refine pk_lt r1 r (fun z => ?_) (fun z => ?_)
    · exact H b11 (fun r' c' g1 g2 g3 g4 => h r' c' g1 (by omega) g3 g4)
    · exact ⟨c1 + 2, ca_c71 (by omega) h0 hc1 hK (fun d11 hd => ih (r + 1) d11 (by omega) (by omega) (by omega) hd) (c1 + 2) c0 b11 (by omega) (by omega) (by omega) (fun r' c' g1 g2 g3 g4 => h r' c' g1 (by omega) g2 g3)⟩
theorem ca_copy {post : Int32 → St2 → Prop} {v m r0 r1 c0 c1 tr tc : Nat} (C R : Nat) {f g : Nat → Nat} {A B : Nat → Nat → Int32} (hv : v < 4) (hm : m ≤ 16) (hr0 : r0 ≤ r1) (hr1 : r1 < 16) (hc0 : c0 ≤ c1) (hc1 : c1 < 16) (htr : tr < 16) (htc : tc < 16)
    (hC : C ≤ c1 - c0 + 1 ∧ C ≤ 16 - tc ∧ (C = c1 - c0 + 1 ∨ C = 16 - tc)) (hR : R ≤ r1 - r0 + 1 ∧ R ≤ 16 - tr ∧ (R = r1 - r0 + 1 ∨ R = 16 - tr))
    (hK : ca_K v m f g A B a2 a3 a4 a5 a6 a7 a8)
    (H : ∀ (f : Nat → Nat) (q0 q1 q2 q3 : Int32) (b2 b3 b4 b5 b6 b7 b8 b9 b10 b11 : Nat → Int32), ca_K v m f g (ca_cp A r0 c0 tr tc C R 0) B b2 b3 b4 b5 b6 b7 b8 → post (nI (R * C)) (q0, q1, q2, q3, a1, b2, b3, b4, b5, b6, b7, b8, b9, b10, b11)) :
    wpX_copy post (q0, q1, q2, q3, a1, a2, a3, a4, a5, a6, a7, a8, a9, a10, a11) (nI (r0 + 16 * c0)) (nI (r1 + 16 * c1)) (nI (tr + 16 * tc)) := by
  unfold wpX_copy
  dsimp only
  rw [ca_low tr htr tc htc, ca_high tr htr tc htc]
  refine ca_bad (by omega) (br_t rfl (ca_bad (by omega) (br_t rfl (ca_bad (by omega) (br_t rfl (ca_setRegion (by omega) hr1 (by omega) hc1 ?_))))))
  rw [Nat.min_eq_left hr0, Nat.max_eq_right hr0, Nat.min_eq_left hc0, Nat.max_eq_right hc0]
  refine nm_e (nm_e ⟨r1 + 2, ca_c56 hr1 hc0 hc1 hK (fun b11 hM => ⟨R + 1, ?_⟩) (r1 + 2) r0 a11 (by omega) (by omega) (by omega) (fun r' c' g1 g2 => absurd g2 (by omega))⟩)
  have t := ca_c123 (post := post) (a1 := a1) hv hm hr0 hr1 hc0 hc1 htr htc hC hR hM (fun f' d2 d3 d4 d5 d6 d7 d8 d9 d10 hK' => H f' _ _ _ _ _ _ _ _ _ _ _ _ _ _ hK') (R + 1) 0 f a2 a3 a4 a5 a6 a7 a8 a9 a10 (by omega) (by omega) (ca_K_congr hK (fun r c _ _ => by
    unfold ca_cp
    rw [if_neg (by omega)]))
  rw [Nat.zero_mul] at t
  exact t
end
end
section
/-! the constructor; the law's plain rows -/
theorem ca_cn_id : ∀ s, s < 80 → nI (ca_cn (fun k => k) s 16) = if s < 16 then 1 else 0 := by decide +kernel
theorem ca_init102 {post : St2 → Prop} {mc ms kc ks v : Nat} {g : Nat → Nat} {B : Nat → Nat → Int32} {q0 q1 q2 q3 : Int32} {a1 : Nat → Int32}
    (H : ∀ (b2 b3 b5 : Nat → Int32), ca_K v 0 (fun k => k) g (fun _ _ => 0) B b2 b3 (fun _ => 0) b5 (fun _ => 0) (fun _ => 0) (fun _ => 0) → post (q0, q1, q2, q3, a1, b2, b3, (fun _ => 0), b5, (fun _ => 0), (fun _ => 0), (fun _ => 0), (fun _ => 0), (fun _ => 0), (fun _ => 0))) :
    ∀ (n i : Nat) (b2 b3 b5 : Nat → Int32), i ≤ 16 → 16 - i < n → (∀ k, k < i → b2 (64 + k) = nI k) → (∀ s, s < 80 → b3 s = if s < i then 1 else 0) →
      wX_init_102 post mc ms kc ks q0 q1 q2 q3 n (nI i) a1 b2 b3 (fun _ => 0) b5 (fun _ => 0) (fun _ => 0) (fun _ => 0) (fun _ => 0) (fun _ => 0) (fun _ => 0) := by
  intro n
  induction n with
  | zero => intro i b2 b3 b5 h1 h2; omega
  | succ n ih =>
    intro i b2 b3 b5 h1 h2 hb2 hb3
    refine pk_le 16 i (fun z => ?_) (fun z => ?_)
    · rw [show i = 16 by omega] at hb2 hb3
      refine H _ _ _ ⟨fun k hk => ⟨show k < 80 by omega, hb2 k hk⟩, fun k hk => absurd hk (by omega), fun s hs => ?_, fun r c _ _ => ?_, fun r c _ _ hk => absurd hk (by omega), fun s hs hn => absurd rfl hn⟩
      · rw [hb3 s hs, ← ca_cn_id s hs]
        rfl
      · unfold ca_V
        rw [Int32.zero_mul, Int32.add_zero]
    · have e1 : (64 + nI i).toNatClampNeg = 64 + i := pk_cl (64 + i) (ca_64 i)
      have e2 : (nI i).toNatClampNeg = i := nI_clamp (by omega)
      have vi : vp_in (nI i) 80 := vp_in_nI (by omega) (by omega)
      rw [e1, e2]
      refine ⟨pk_in (64 + i) 80 (by omega) (ca_64 i), nm_e ⟨vi, nm_e ⟨vi, nm_e (nm_r (nI_1 i) (ih (i + 1) _ _ _ (by omega) (by omega) (fun k hk => ?_) (fun s hs => ?_)))⟩⟩⟩
      · by_cases e : k = i
        · rw [e, pk_us]
        · rw [pk_un (by omega)]
          exact hb2 k (by omega)
      · by_cases e : s = i
        · rw [e, pk_us, if_pos (by omega)]
        · rw [pk_un e, hb3 s hs]
          exact ca_ifc (by omega)
theorem ca_init {post : St2 → Prop} {v : Nat} {g : Nat → Nat} {B : Nat → Nat → Int32} {q0 q1 q2 q3 : Int32}
    (H : ∀ (b2 b3 b5 : Nat → Int32), ca_K v 0 (fun k => k) g (fun _ _ => 0) B b2 b3 (fun _ => 0) b5 (fun _ => 0) (fun _ => 0) (fun _ => 0) → post (q0, q1, q2, q3, upd (fun _ => 0) 4 1, b2, b3, (fun _ => 0), b5, (fun _ => 0), (fun _ => 0), (fun _ => 0), (fun _ => 0), (fun _ => 0), (fun _ => 0))) :
    wpX_init post 11 2181 (q0, q1, q2, q3) := by
  unfold wpX_init
  dsimp only
  refine ⟨by decide, by decide, by decide, by decide, by decide, by decide, by decide, by decide, by decide, by decide, by decide, by decide, by decide, by decide, by decide, by decide, by decide, by decide, by decide, by decide, by decide, by decide, nm_e ⟨17, ?_⟩⟩
  exact ca_init102 H 17 0 _ _ _ (by omega) (by omega) (fun k hk => absurd hk (by omega)) (fun s hs => by rw [if_neg (by omega)])
/-- what the adds make: k rounds -/
def ca_L (u w : Int32) (r0 c0 k : Nat) : Nat → Nat → Int32 := fun r c =>
  if r0 ≤ r ∧ r ≤ r0 + 4 ∧ c0 ≤ c ∧ c ≤ c0 + 4 then u * nI (min (r - r0 + 1) k) + w * nI (min (c - c0 + 1) k) else 0
theorem ca_ring4 (u w x y : Int32) : u * (x + 1) + w * (y + 1) = u * x + w * y + u + w := by grind
theorem ca_ring5 (u w x y : Int32) : u * (x + 1) + w * y = u * x + w * y + u := by grind
theorem ca_ring6 (u w x y : Int32) : u * x + w * (y + 1) = u * x + w * y + w := by grind
theorem ca_L_step {u w : Int32} {r0 c0 k : Nat} :
    ∀ r c, r < 16 → c < 16 → ca_L u w r0 c0 (k + 1) r c = ca_ch (ca_ch (ca_L u w r0 c0 k) u (r0 + k) (r0 + 4) c0 (c0 + 4) 16) w r0 (r0 + 4) (c0 + k) (c0 + 4) 16 r c := by
  intro r c hr hc
  have hpl := ca_pl_lt hr hc
  unfold ca_ch ca_L
  by_cases h : r0 ≤ r ∧ r ≤ r0 + 4 ∧ c0 ≤ c ∧ c ≤ c0 + 4
  · rw [if_pos h, if_pos h]
    by_cases h1 : k ≤ r - r0
    · rw [if_pos (show ca_pl r c < 16 ∧ r0 + k ≤ r ∧ r ≤ r0 + 4 ∧ c0 ≤ c ∧ c ≤ c0 + 4 by omega), Nat.min_eq_right (show k + 1 ≤ r - r0 + 1 by omega), Nat.min_eq_right (show k ≤ r - r0 + 1 by omega), nI_succ k]
      by_cases h2 : k ≤ c - c0
      · rw [if_pos (by omega), Nat.min_eq_right (show k + 1 ≤ c - c0 + 1 by omega), Nat.min_eq_right (show k ≤ c - c0 + 1 by omega), nI_succ k]
        exact ca_ring4 _ _ _ _
      · rw [if_neg (by omega), Nat.min_eq_left (show c - c0 + 1 ≤ k + 1 by omega), Nat.min_eq_left (show c - c0 + 1 ≤ k by omega)]
        exact ca_ring5 _ _ _ _
    · rw [if_neg (show ¬ (ca_pl r c < 16 ∧ r0 + k ≤ r ∧ r ≤ r0 + 4 ∧ c0 ≤ c ∧ c ≤ c0 + 4) by omega), Nat.min_eq_left (show r - r0 + 1 ≤ k + 1 by omega), Nat.min_eq_left (show r - r0 + 1 ≤ k by omega)]
      by_cases h2 : k ≤ c - c0
      · rw [if_pos (by omega), Nat.min_eq_right (show k + 1 ≤ c - c0 + 1 by omega), Nat.min_eq_right (show k ≤ c - c0 + 1 by omega), nI_succ k]
        exact ca_ring6 _ _ _ _
      · rw [if_neg (by omega), Nat.min_eq_left (show c - c0 + 1 ≤ k + 1 by omega), Nat.min_eq_left (show c - c0 + 1 ≤ k by omega)]
  · rw [if_neg h, if_neg h, if_neg (by omega), if_neg (by omega)]
theorem ca_L_0 {u w : Int32} {r0 c0 : Nat} (r c : Nat) : ca_L u w r0 c0 0 r c = 0 := by
  unfold ca_L
  split
  · rw [Nat.min_zero, Nat.min_zero, nI_0, Int32.mul_zero, Int32.mul_zero, Int32.add_zero]
  · rfl
theorem ca_L_5 {u w : Int32} {r0 c0 k q : Nat} (hk : k < 5) (hq : q < 5) : ca_L u w r0 c0 5 (r0 + k) (c0 + q) = u * (nI k + 1) + w * (nI q + 1) := by
  unfold ca_L
  rw [if_pos (by omega), Nat.add_sub_cancel_left, Nat.add_sub_cancel_left, Nat.min_eq_left (by omega), Nat.min_eq_left (by omega), nI_1, nI_1]
/-! the sum -/
def ca_pn (F : Nat → Nat → Nat) (r0 r1 c0 c1 k : Nat) : Nat → Nat
  | 0 => 0
  | i + 1 => ca_pn F r0 r1 c0 c1 k i + (if r0 ≤ k / 4 * 4 + i / 4 ∧ k / 4 * 4 + i / 4 ≤ r1 ∧ c0 ≤ k % 4 * 4 + i % 4 ∧ k % 4 * 4 + i % 4 ≤ c1 then F (k / 4 * 4 + i / 4) (k % 4 * 4 + i % 4) else 0)
def ca_tn (F : Nat → Nat → Nat) (r0 r1 c0 c1 : Nat) : Nat → Nat
  | 0 => 0
  | k + 1 => ca_tn F r0 r1 c0 c1 k + ca_pn F r0 r1 c0 c1 k 16
theorem ca_ring7 (u w a b c d : Int32) : (u * a + w * b) + (u * c + w * d) = u * (a + c) + w * (b + d) := by grind
theorem ca_ps_lin {A : Nat → Nat → Int32} {F G : Nat → Nat → Nat} {u w : Int32} {r0 r1 c0 c1 k : Nat} (h : ∀ r c, (r0 ≤ r ∧ r ≤ r1 ∧ c0 ≤ c ∧ c ≤ c1) → A r c = u * nI (F r c) + w * nI (G r c)) :
    ∀ n, ca_ps A r0 r1 c0 c1 k n = u * nI (ca_pn F r0 r1 c0 c1 k n) + w * nI (ca_pn G r0 r1 c0 c1 k n) := by
  intro n
  induction n with
  | zero =>
    show (0 : Int32) = u * 0 + w * 0
    grind
  | succ n ih =>
    unfold ca_ps ca_pn
    rw [ih]
    by_cases e : r0 ≤ k / 4 * 4 + n / 4 ∧ k / 4 * 4 + n / 4 ≤ r1 ∧ c0 ≤ k % 4 * 4 + n % 4 ∧ k % 4 * 4 + n % 4 ≤ c1
    · rw [if_pos e, if_pos e, if_pos e, h _ _ e, ← nI_add, ← nI_add]
      exact ca_ring7 _ _ _ _ _ _
    · rw [if_neg e, if_neg e, if_neg e, Int32.add_zero]
      rfl
theorem ca_ts_lin {A : Nat → Nat → Int32} {F G : Nat → Nat → Nat} {u w : Int32} {r0 r1 c0 c1 : Nat} (h : ∀ r c, (r0 ≤ r ∧ r ≤ r1 ∧ c0 ≤ c ∧ c ≤ c1) → A r c = u * nI (F r c) + w * nI (G r c)) :
    ∀ n, ca_ts A r0 r1 c0 c1 n = u * nI (ca_tn F r0 r1 c0 c1 n) + w * nI (ca_tn G r0 r1 c0 c1 n) := by
  intro n
  induction n with
  | zero =>
    show (0 : Int32) = u * 0 + w * 0
    grind
  | succ n ih =>
    unfold ca_ts ca_tn
    rw [ih, ca_ps_lin h 16, ← nI_add, ← nI_add]
    exact ca_ring7 _ _ _ _ _ _
theorem ca_75r : ∀ r0, r0 < 9 → ∀ c0, c0 < 9 → ca_tn (fun r _ => min (r - r0 + 1) 5) r0 (r0 + 4) c0 (c0 + 4) 16 = 75 := by decide +kernel
theorem ca_75c : ∀ r0, r0 < 9 → ∀ c0, c0 < 9 → ca_tn (fun _ c => min (c - c0 + 1) 5) r0 (r0 + 4) c0 (c0 + 4) 16 = 75 := by decide +kernel
theorem ca_L_sum {u w : Int32} {r0 c0 : Nat} (hr : r0 < 9) (hc : c0 < 9) : ca_ts (ca_L u w r0 c0 5) r0 (r0 + 4) c0 (c0 + 4) 16 = 75 * (u + w) := by
  rw [ca_ts_lin (F := fun r _ => min (r - r0 + 1) 5) (G := fun _ c => min (c - c0 + 1) 5) (u := u) (w := w) (fun r c h => ?_) 16, ca_75r r0 hr c0 hc, ca_75c r0 hr c0 hc]
  · show u * 75 + w * 75 = 75 * (u + w)
    grind
  · unfold ca_L
    rw [if_pos h]
/-! ints of the law -/
theorem ca_16m (r c : Nat) : nI r + 16 * nI c = nI (r + 16 * c) := by
  rw [show (16 : Int32) = nI 16 from rfl, pk_mul, nI_add]
theorem ca_eq1 {a b : Nat} (h : a = b) : nI a = nI b := congrArg nI h
theorem ca_55 : ∀ k, k < 5 → 5 * (5 - nI k) = nI ((5 - k) * 5) := by decide +kernel
theorem ca_mod9 (x : Int32) : ∃ r, r < 9 ∧ (x &&& 255) - (x &&& 255) / 9 * 9 = nI r := by
  obtain ⟨j, hj, e⟩ := pk_andE x (m := 255) 8 (by decide)
  rw [e]
  exact ⟨j % 9, by omega, pk_rem (a := j) (d := 9) (by omega) (by omega) (by omega)⟩
theorem ca_mod4 (x : Int32) : ∃ r, r < 4 ∧ (x &&& 255) - (x &&& 255) / 4 * 4 = nI r := by
  obtain ⟨j, hj, e⟩ := pk_andE x (m := 255) 8 (by decide)
  rw [e]
  exact ⟨j % 4, by omega, pk_rem (a := j) (d := 4) (by omega) (by omega) (by omega)⟩
end
section
/-! the law's walk -/
/-- a cell's answer against the law's: sr, sc the source's row and column as the law has them -/
def ca_chk (u w : Int32) (x : Int32) (k q : Nat) (sr sc : Int32) : Prop :=
  (¬ sr < 0 → ¬ 5 ≤ sr → ¬ sc < 0 → ¬ 5 ≤ sc → x = u * (sr + 1) + w * (sc + 1)) ∧ (¬ (¬ sr < 0 ∧ ¬ 5 ≤ sr ∧ ¬ sc < 0 ∧ ¬ 5 ≤ sc) → x = u * (nI k + 1) + w * (nI q + 1))
section
variable {q0 q1 q2 q3 : Int32} {a1 a2 a3 a4 a5 a6 a7 a8 a9 a10 a11 : Nat → Int32}
theorem ca_416 {post : Int32 → St0 → Prop} {mc ms kc ks : Nat} {J3 J2 : Int32 → Prop} {u w x9 x10 x11 x12 x21 x22 x23 z0 : Int32} {v r0 c0 k q : Nat} {f g : Nat → Nat} {A A' : Nat → Nat → Int32}
    (hv : v < 4) (h1 : ¬ a1 v = 0) (hK : ca_K v 16 f g A' A a2 a3 a4 a5 a6 a7 a8) (hr : r0 < 9) (hc : c0 < 9) (hk : k < 5) (hq : q < 5)
    (h0 : z0 = 0 → A' (r0 + k) (c0 + q) = x21) (hn : ¬ z0 = 0 → A' (r0 + k) (c0 + q) = u * (x22 + 1) + w * (x23 + 1)) (ho : A (r0 + k) (c0 + q) = x21) (HJ : J2 (nI (q + 1))) :
    wL_lawOf_416 post mc ms J3 J2 u w (nI (r0 + 16 * c0)) x9 x10 x11 x12 (nI v) (nI k) (nI q) x21 x22 x23 z0 kc ks q0 q1 q2 q3 a1 a2 a3 a4 a5 a6 a7 a8 a9 a10 a11 := by
  have ec : nI (r0 + 16 * c0) + nI k + 16 * nI q = nI ((r0 + k) + 16 * (c0 + q)) := by
    rw [nI_add, ca_16m]
    exact ca_eq1 (by omega)
  have W : ∀ z, A' (r0 + k) (c0 + q) = z → wL_lawOf_461 post mc ms J3 J2 u w (nI (r0 + 16 * c0)) x9 x10 x11 x12 (nI v) (nI k) (nI q) x21 (nI ((r0 + k) + 16 * (c0 + q))) z (A' (r0 + k) (c0 + q)) kc ks q0 q1 q2 q3 a1 a2 a3 a4 a5 a6 a7 a8 a9 a10 a11 :=
    fun z hz => br_t hz (ca_getOf hv h1 hK (by omega) (by omega) (br_t ho (nm_r (nI_1 q) HJ)))
  unfold wL_lawOf_416 wpL_due
  dsimp only
  exact nm_r ec (ca_get hK (by omega) (by omega) (br_c (fun e => W _ (h0 e)) (fun e => W _ (hn e))))
theorem ca_387 {post : Int32 → St0 → Prop} {mc ms kc ks : Nat} {J3 J2 : Int32 → Prop} {u w x9 x10 x11 x12 sr sc : Int32} {v r0 c0 k q : Nat} {f g : Nat → Nat} {A A' : Nat → Nat → Int32}
    (hv : v < 4) (h1 : ¬ a1 v = 0) (hK : ca_K v 16 f g A' A a2 a3 a4 a5 a6 a7 a8) (hr : r0 < 9) (hc : c0 < 9) (hk : k < 5) (hq : q < 5)
    (hs : ca_chk u w (A' (r0 + k) (c0 + q)) k q sr sc) (ho : A (r0 + k) (c0 + q) = u * (nI k + 1) + w * (nI q + 1)) (HJ : J2 (nI (q + 1))) :
    wL_lawOf_387 post mc ms J3 J2 u w (nI (r0 + 16 * c0)) x9 x10 x11 x12 (nI v) (nI k) (nI q) (u * (nI k + 1) + w * (nI q + 1)) sr sc kc ks q0 q1 q2 q3 a1 a2 a3 a4 a5 a6 a7 a8 a9 a10 a11 := by
  have W : ¬ (¬ sr < 0 ∧ ¬ 5 ≤ sr ∧ ¬ sc < 0 ∧ ¬ 5 ≤ sc) → wL_lawOf_415 post mc ms J3 J2 u w (nI (r0 + 16 * c0)) x9 x10 x11 x12 (nI v) (nI k) (nI q) (u * (nI k + 1) + w * (nI q + 1)) sr sc kc ks q0 q1 q2 q3 a1 a2 a3 a4 a5 a6 a7 a8 a9 a10 a11 := by
    intro h
    unfold wL_lawOf_415
    exact ca_416 hv h1 hK hr hc hk hq (fun _ => hs.2 h) (fun z => absurd rfl z) ho HJ
  unfold wL_lawOf_387
  exact br_c (fun e => W (fun t => t.1 e)) (fun e1 => br_c (fun e => W (fun t => t.2.1 e)) (fun e2 => br_c (fun e => W (fun t => t.2.2.1 e)) (fun e3 => br_c (fun e => W (fun t => t.2.2.2 e)) (fun e4 =>
    ca_416 hv h1 hK hr hc hk hq (fun z => absurd z (by decide)) (fun _ => hs.1 e1 e2 e3 e4) ho HJ))))
theorem ca_332 {post : Int32 → St0 → Prop} {mc ms kc ks : Nat} {J3 : Int32 → Prop} {u w x9 x10 x11 x12 : Int32} {v r0 c0 k : Nat} {f g : Nat → Nat} {A A' : Nat → Nat → Int32}
    (hv : v < 4) (h1 : ¬ a1 v = 0) (hK : ca_K v 16 f g A' A a2 a3 a4 a5 a6 a7 a8) (hr : r0 < 9) (hc : c0 < 9) (hk : k < 5)
    (hs : ∀ q, q < 5 → (x12 = 0 → ca_chk u w (A' (r0 + k) (c0 + q)) k q (nI k - x10) (nI q - x11)) ∧ (¬ x12 = 0 → ca_chk u w (A' (r0 + k) (c0 + q)) k q (nI k + x10) (nI q + x11)))
    (ho : ∀ q, q < 5 → A (r0 + k) (c0 + q) = u * (nI k + 1) + w * (nI q + 1)) (HJ : J3 (nI (k + 1))) :
    ∀ (n q : Nat), q ≤ 5 → 5 - q < n → wL_lawOf_332 post mc ms J3 u w (nI (r0 + 16 * c0)) x9 x10 x11 x12 (nI v) (nI k) kc ks q0 q1 q2 q3 a1 a2 a3 a4 a5 a6 a7 a8 a9 a10 a11 n (nI q) := by
  intro n
  induction n with
  | zero => intro q g1 g2; omega
  | succ n ih =>
    intro q g1 g2
    refine pk_le 5 q (fun z => nm_r (nI_1 k) HJ) (fun z => ?_)
    have t := ih (q + 1) (by omega) (by omega)
    unfold wpL_due
    exact br_c (fun e => br_t e (ca_387 hv h1 hK hr hc hk z ((hs q z).1 e) (ho q z) t)) (fun e => br_f e (ca_387 hv h1 hK hr hc hk z ((hs q z).2 e) (ho q z) t))
theorem ca_323 {post : Int32 → St0 → Prop} {mc ms kc ks : Nat} {u w x10 x11 x12 : Int32} {v r0 c0 : Nat} {f g : Nat → Nat} {A' : Nat → Nat → Int32}
    (HP : post 1 ()) (hv : v < 4) (h1 : ¬ a1 v = 0) (hK : ca_K v 16 f g A' (ca_L u w r0 c0 5) a2 a3 a4 a5 a6 a7 a8) (hr : r0 < 9) (hc : c0 < 9)
    (hs : ∀ k q, k < 5 → q < 5 → (x12 = 0 → ca_chk u w (A' (r0 + k) (c0 + q)) k q (nI k - x10) (nI q - x11)) ∧ (¬ x12 = 0 → ca_chk u w (A' (r0 + k) (c0 + q)) k q (nI k + x10) (nI q + x11))) :
    ∀ (n k : Nat), k ≤ 5 → 5 - k < n → wL_lawOf_323 post mc ms u w (nI (r0 + 16 * c0)) (nI ((r0 + 4) + 16 * (c0 + 4))) x10 x11 x12 (nI v) kc ks q0 q1 q2 q3 a1 a2 a3 a4 a5 a6 a7 a8 a9 a10 a11 n (nI k) := by
  have hL0 : ca_L u w r0 c0 5 r0 c0 = u + w := by
    have t := ca_L_5 (u := u) (w := w) (r0 := r0) (c0 := c0) (k := 0) (q := 0) (by omega) (by omega)
    rw [Nat.add_zero, Nat.add_zero] at t
    rw [t, nI_0]
    show u * (0 + 1) + w * (0 + 1) = u + w
    grind
  have hds := ca_ds_le (A := A') (B := ca_L u w r0 c0 5) (f := f) (g := g) 16
  intro n
  induction n with
  | zero => intro k g1 g2; omega
  | succ n ih =>
    intro k g1 g2
    refine pk_le 5 k (fun z => ?_) (fun z => ⟨6, ca_332 hv h1 hK hr hc z (fun q hq => hs k q z hq) (fun q hq => ca_L_5 z hq) (ih (k + 1) (by omega) (by omega)) 6 0 (by omega) (by omega)⟩)
    refine ca_differ hv h1 hK (br_f (nI_pos (by omega)) (ca_keepTaken hv h1 (br_t rfl (ca_restore hv h1 hK (fun b2 b3 hK2 => br_t rfl (ca_differ hv h1 hK2 ?_))))))
    refine br_t (by rw [ca_ds_0 16 (fun _ _ => rfl)]; rfl) (ca_get hK2 (by omega) (by omega) (br_t hL0 (ca_drop hv h1 hK2 (fun b3' hK3 => br_t rfl (ca_dropNo hv pk_us (br_t rfl ?_))))))
    refine ca_copy (tr := 15) (tc := 15) 1 1 hv (by omega) (by omega) (by omega) (by omega) (by omega) (by omega) (by omega) (by omega) (by omega) hK3 (fun f' p0 p1 p2 p3 d2 d3 d4 d5 d6 d7 d8 d9 d10 d11 hK4 => br_t rfl (ca_get (r := 15) (c := 15) hK4 (by omega) (by omega) (br_t ?_ HP)))
    exact hL0
end
end
section
/-! the copy's answers; the law's middle, its first loop, the owed statement -/
theorem ca_chk0 {u w : Int32} {r0 c0 dr dc k q : Nat} (hdr : dr < 4) (hdc : dc < 4) (hk : k < 5) (hq : q < 5) :
    ca_chk u w (ca_cp (ca_L u w r0 c0 5) r0 c0 (r0 + dr) (c0 + dc) 5 5 0 (r0 + k) (c0 + q)) k q (nI k - nI dr) (nI q - nI dc) := by
  unfold ca_cp
  by_cases e1 : dr ≤ k
  · by_cases e2 : dc ≤ q
    · rw [if_pos (by omega), pk_sub e1, pk_sub e2, show r0 + (r0 + k - (r0 + dr)) = r0 + (k - dr) by omega, show c0 + (c0 + q - (c0 + dc)) = c0 + (q - dc) by omega, ca_L_5 (by omega) (by omega)]
      exact ⟨fun _ _ _ _ => rfl, fun h => absurd ⟨nI_pos (by omega), nI_ge (b := 5) (by omega) (by omega), nI_pos (by omega), nI_ge (b := 5) (by omega) (by omega)⟩ h⟩
    · rw [if_neg (by omega), ca_L_5 hk hq]
      exact ⟨fun _ _ h _ => absurd (pk_sneg (by omega) (by omega)) h, fun _ => rfl⟩
  · rw [if_neg (by omega), ca_L_5 hk hq]
    exact ⟨fun h _ _ _ => absurd (pk_sneg (by omega) (by omega)) h, fun _ => rfl⟩
theorem ca_chk1 {u w : Int32} {r0 c0 dr dc k q : Nat} (hdr : dr < 4) (hdc : dc < 4) (hk : k < 5) (hq : q < 5) :
    ca_chk u w (ca_cp (ca_L u w r0 c0 5) (r0 + dr) (c0 + dc) r0 c0 (5 - dc) (5 - dr) 0 (r0 + k) (c0 + q)) k q (nI k + nI dr) (nI q + nI dc) := by
  unfold ca_cp
  rw [nI_add, nI_add]
  by_cases e : k + dr < 5 ∧ q + dc < 5
  · rw [if_pos (by omega), show r0 + dr + (r0 + k - r0) = r0 + (k + dr) by omega, show c0 + dc + (c0 + q - c0) = c0 + (q + dc) by omega, ca_L_5 e.1 e.2]
    exact ⟨fun _ _ _ _ => rfl, fun h => absurd ⟨nI_pos (by omega), nI_ge (b := 5) e.1 (by omega), nI_pos (by omega), nI_ge (b := 5) e.2 (by omega)⟩ h⟩
  · rw [if_neg (by omega), ca_L_5 hk hq]
    refine ⟨fun _ h2 _ h4 => ?_, fun _ => rfl⟩
    by_cases e1 : k + dr < 5
    · exact absurd (nI_le (a := 5) (b := q + dc) (by omega) (by omega)) h4
    · exact absurd (nI_le (a := 5) (b := k + dr) (by omega) (by omega)) h2
section
variable {q0 q1 q2 q3 : Int32} {a1 a2 a3 a4 a5 a6 a7 a8 a9 a10 a11 : Nat → Int32}
theorem ca_281 {post : Int32 → St0 → Prop} {mc ms kc ks : Nat} {u w x4 x10 x11 x12 x13 x14 x15 x16 z0 : Int32} {v r0 c0 : Nat} (sr sc tr tc C R : Nat) {f g : Nat → Nat} {B : Nat → Nat → Int32}
    (HP : post 1 ()) (hv : v < 4) (e4 : x4 &&& 3 = nI v) (h1 : a1 v = 0) (hK : ca_K v 0 f g (ca_L u w r0 c0 5) B a2 a3 a4 a5 a6 a7 a8) (hr : r0 < 9) (hc : c0 < 9)
    (e13 : x13 = nI (sr + 16 * sc)) (e15 : x15 = nI ((r0 + 4) + 16 * (c0 + 4))) (e14 : x14 = nI (tr + 16 * tc)) (e16 : x16 = nI R) (ez : z0 = nI C)
    (hsr : sr ≤ r0 + 4) (hsc : sc ≤ c0 + 4) (htr : tr < 16) (htc : tc < 16)
    (hC : C ≤ c0 + 4 - sc + 1 ∧ C ≤ 16 - tc ∧ (C = c0 + 4 - sc + 1 ∨ C = 16 - tc)) (hR : R ≤ r0 + 4 - sr + 1 ∧ R ≤ 16 - tr ∧ (R = r0 + 4 - sr + 1 ∨ R = 16 - tr))
    (hs : ∀ k q, k < 5 → q < 5 → (x12 = 0 → ca_chk u w (ca_cp (ca_L u w r0 c0 5) sr sc tr tc C R 0 (r0 + k) (c0 + q)) k q (nI k - x10) (nI q - x11)) ∧ (¬ x12 = 0 → ca_chk u w (ca_cp (ca_L u w r0 c0 5) sr sc tr tc C R 0 (r0 + k) (c0 + q)) k q (nI k + x10) (nI q + x11))) :
    wL_lawOf_281 post mc ms u w x4 (nI (r0 + 16 * c0)) (nI ((r0 + 4) + 16 * (c0 + 4))) x10 x11 x12 x13 x14 x15 x16 z0 kc ks q0 q1 q2 q3 a1 a2 a3 a4 a5 a6 a7 a8 a9 a10 a11 := by
  subst e13 e15 e14 e16 ez
  unfold wL_lawOf_281
  refine nm_r e4 (ca_keep hv h1 hK (fun b2 b3 hK2 => br_t rfl ?_))
  refine ca_copy C R hv (by omega) hsr (by omega) hsc (by omega) htr htc hC hR hK2 (fun f' p0 p1 p2 p3 d2 d3 d4 d5 d6 d7 d8 d9 d10 d11 hK3 => br_t (pk_mul R C).symm ⟨6, ?_⟩)
  exact ca_323 HP hv (by rw [pk_us]; decide) hK3 hr hc hs 6 0 (by omega) (by omega)
theorem ca_170 {post : Int32 → St0 → Prop} {mc ms kc ks : Nat} {u w x4 : Int32} {v r0 c0 dr dc : Nat} {f g : Nat → Nat} {B : Nat → Nat → Int32}
    (HP : post 1 ()) (hv : v < 4) (e4 : x4 &&& 3 = nI v) (h1 : a1 v = 0) (hK : ca_K v 0 f g (ca_L u w r0 c0 5) B a2 a3 a4 a5 a6 a7 a8) (hr : r0 < 9) (hc : c0 < 9) (hdr : dr < 4) (hdc : dc < 4) :
    wL_lawOf_170 post mc ms u w x4 (nI (r0 + 16 * c0)) (nI ((r0 + 4) + 16 * (c0 + 4))) (nI dr) (nI dc) 0 kc ks q0 q1 q2 q3 a1 a2 a3 a4 a5 a6 a7 a8 a9 a10 a11 ∧
    wL_lawOf_170 post mc ms u w x4 (nI (r0 + 16 * c0)) (nI ((r0 + 4) + 16 * (c0 + 4))) (nI dr) (nI dc) 1 kc ks q0 q1 q2 q3 a1 a2 a3 a4 a5 a6 a7 a8 a9 a10 a11 := by
  have ea : nI (r0 + 16 * c0) + nI dr + 16 * nI dc = nI ((r0 + dr) + 16 * (c0 + dc)) := by
    rw [nI_add, ca_16m]
    exact ca_eq1 (by omega)
  have eb : nI (r0 + 16 * c0) + 4 - 0 + 16 * (4 - 0) = nI ((r0 + 4) + 16 * (c0 + 4)) := by
    rw [show nI (r0 + 16 * c0) + 4 - 0 + 16 * (4 - 0) = nI (r0 + 16 * c0) + nI 68 from by show nI (r0 + 16 * c0) + 4 - 0 + 16 * (4 - 0) = nI (r0 + 16 * c0) + 68; grind, nI_add]
    exact ca_eq1 (by omega)
  have ed : (nI (r0 + 16 * c0) + nI dr + 16 * nI dc) + 4 - nI dr + 16 * (4 - nI dc) = nI ((r0 + 4) + 16 * (c0 + 4)) := by
    rw [← eb]
    grind
  refine ⟨?_, ?_⟩
  · have t : wL_lawOf_281 post mc ms u w x4 (nI (r0 + 16 * c0)) (nI ((r0 + 4) + 16 * (c0 + 4))) (nI dr) (nI dc) 0 (nI (r0 + 16 * c0)) (nI (r0 + 16 * c0) + nI dr + 16 * nI dc) (nI (r0 + 16 * c0) + 4 - 0 + 16 * (4 - 0)) 5 5 kc ks q0 q1 q2 q3 a1 a2 a3 a4 a5 a6 a7 a8 a9 a10 a11 :=
      ca_281 r0 c0 (r0 + dr) (c0 + dc) 5 5 HP hv e4 h1 hK hr hc rfl eb ea rfl rfl (by omega) (by omega) (by omega) (by omega) (by omega) (by omega) (fun k q hk hq => ⟨fun _ => ca_chk0 hdr hdc hk hq, fun z => absurd rfl z⟩)
    exact br_t rfl (br_t rfl (br_t rfl (br_t rfl (nm_e (br_t rfl (br_t rfl t))))))
  · have t : wL_lawOf_281 post mc ms u w x4 (nI (r0 + 16 * c0)) (nI ((r0 + 4) + 16 * (c0 + 4))) (nI dr) (nI dc) 1 (nI (r0 + 16 * c0) + nI dr + 16 * nI dc) (nI (r0 + 16 * c0)) ((nI (r0 + 16 * c0) + nI dr + 16 * nI dc) + 4 - nI dr + 16 * (4 - nI dc)) (5 - nI dr) (5 - nI dc) kc ks q0 q1 q2 q3 a1 a2 a3 a4 a5 a6 a7 a8 a9 a10 a11 :=
      ca_281 (r0 + dr) (c0 + dc) r0 c0 (5 - dc) (5 - dr) HP hv e4 h1 hK hr hc ea ed rfl (pk_sub (a := 5) (by omega)) (pk_sub (a := 5) (by omega)) (by omega) (by omega) (by omega) (by omega) (by omega) (by omega) (fun k q hk hq => ⟨fun z => absurd z (by decide), fun _ => ca_chk1 hdr hdc hk hq⟩)
    have n1 : ¬ (1 : Int32) = 0 := by decide
    exact br_f n1 (br_f n1 (br_f n1 (br_f n1 (nm_e (br_f n1 (br_f n1 t))))))
theorem ca_54 {post : Int32 → St0 → Prop} {mc ms kc ks : Nat} {u w x3 x4 : Int32} {v r0 c0 : Nat} {g : Nat → Nat} {B : Nat → Nat → Int32}
    (HP : post 1 ()) (hv : v < 4) (e4 : x4 &&& 3 = nI v) (h1 : a1 v = 0) (hr : r0 < 9) (hc : c0 < 9) :
    ∀ (n k : Nat) (f : Nat → Nat) (q0 q1 q2 q3 : Int32) (b2 b3 b4 b5 b6 b7 b8 b9 b10 : Nat → Int32), k ≤ 5 → 5 - k < n → ca_K v 0 f g (ca_L u w r0 c0 k) B b2 b3 b4 b5 b6 b7 b8 →
      wL_lawOf_54 post mc ms u w x3 x4 (nI (r0 + 16 * c0)) (nI ((r0 + 4) + 16 * (c0 + 4))) kc ks n (nI k) q0 q1 q2 q3 a1 b2 b3 b4 b5 b6 b7 b8 b9 b10 a11 := by
  intro n
  induction n with
  | zero => intro k f q0 q1 q2 q3 b2 b3 b4 b5 b6 b7 b8 b9 b10 g1 g2; omega
  | succ n ih =>
    intro k f q0 q1 q2 q3 b2 b3 b4 b5 b6 b7 b8 b9 b10 g1 g2 hK
    refine pk_le 5 k (fun z => ?_) (fun z => ?_)
    · rw [show k = 5 by omega] at hK
      obtain ⟨dr, hdr, er⟩ := ca_mod4 x3
      obtain ⟨dc, hdc, ec⟩ := ca_mod4 (x3 >>> ((8 : Int32) &&& 31))
      refine ca_sum (by omega) (by omega) (by omega) (by omega) hK (fun p0 p1 p2 p3 d7 d8 hK2 => br_t (ca_L_sum hr hc) ⟨ca_ne4, nm_r er ⟨ca_ne4, nm_r ec ?_⟩⟩)
      have t := ca_170 (post := post) (mc := mc) (ms := ms) (kc := kc) (ks := ks) (q0 := p0) (q1 := p1) (q2 := p2) (q3 := p3) (a9 := b9) (a10 := b10) (a11 := a11) HP hv e4 h1 hK2 hr hc hdr hdc
      exact br_c (fun _ => t.1) (fun _ => t.2)
    · have ea : nI (r0 + 16 * c0) + nI k = nI ((r0 + k) + 16 * c0) := by
        rw [nI_add]
        exact ca_eq1 (by omega)
      have eb : nI (r0 + 16 * c0) + 16 * nI k = nI (r0 + 16 * (c0 + k)) := by
        rw [ca_16m]
        exact ca_eq1 (by omega)
      rw [ea, eb]
      refine ca_add hv (by omega) (by omega) (by omega) (by omega) (by omega) hK (fun f2 p0 p1 p2 p3 d2 d3 d4 d5 d6 d7 d8 d9 d10 hK2 => br_t ?_ ?_)
      · rw [ca_55 k z, show r0 + 4 - (r0 + k) + 1 = 5 - k by omega, show c0 + 4 - c0 + 1 = 5 by omega]
      · refine ca_add hv (by omega) (by omega) (by omega) (by omega) (by omega) hK2 (fun f3 s0 s1 s2 s3 e2 e3 e4 e5 e6 e7 e8 e9 e10 hK3 => br_t ?_ (nm_r (nI_1 k) (ih (k + 1) f3 _ _ _ _ _ _ _ _ _ _ _ _ _ (by omega) (by omega) (ca_K_congr hK3 ca_L_step))))
        rw [ca_55 k z, show r0 + 4 - r0 + 1 = 5 by omega, show c0 + 4 - (c0 + k) + 1 = 5 - k by omega, Nat.mul_comm]
end
theorem ca_lawOf {post : Int32 → St0 → Prop} (HP : post 1 ()) (p0 p1 p2 p3 p4 : Int32) : wpL_lawOf post 12 2196 () p0 p1 p2 p3 p4 := by
  obtain ⟨r0, hr, er⟩ := ca_mod9 p0
  obtain ⟨c0, hc, ec⟩ := ca_mod9 (p0 >>> ((8 : Int32) &&& 31))
  obtain ⟨v, hv, ev⟩ := pk_andE p4 (m := 3) 2 (by decide)
  have n9 : ¬ (9 : Int32) = 0 := by decide
  have e2 : nI (r0 + 16 * c0) + 4 + 64 = nI ((r0 + 4) + 16 * (c0 + 4)) := by
    rw [show nI (r0 + 16 * c0) + 4 + 64 = nI (r0 + 16 * c0) + nI 68 from by show nI (r0 + 16 * c0) + 4 + 64 = nI (r0 + 16 * c0) + 68; grind, nI_add]
    exact ca_eq1 (by omega)
  refine ⟨by decide, by decide, 11, 2181, by decide, by decide, ca_init (v := v) (g := fun k => k) (B := fun _ _ => 0) (fun b2 b3 b5 hK => ⟨n9, nm_r er ⟨n9, nm_r ec (nm_r (ca_16m r0 c0) (nm_r e2 ⟨6, ?_⟩))⟩⟩)⟩
  exact ca_54 HP (show v < 4 from hv) ev (pk_un (show v ≠ 4 by omega)) hr hc 6 0 (fun k => k) _ _ _ _ _ _ _ _ _ _ _ _ _ (by omega) (by omega) (ca_K_congr hK (fun r c _ _ => ca_L_0 r c))
theorem ca_cellAt {post : Int32 → Prop} {L : Nat} {xs : Nat → Int32} {i : Nat} (hi : i < 5) (hL : L ≤ 5) (H : ∀ x, post x) : wpL_cellAt post L xs () (nI i) :=
  pk_le L i (fun _ => H 0) (fun z => ⟨vp_in_nI z (by omega), H _⟩)
theorem i_vc (xs : Nat → Int32) (L : Nat) (hL : L ≤ 5) : wpL_law (fun r => r = 1) L xs :=
  ca_cellAt (i := 0) (by omega) hL (fun r1 => ca_cellAt (i := 1) (by omega) hL (fun r2 => ca_cellAt (i := 2) (by omega) hL (fun r3 => ca_cellAt (i := 3) (by omega) hL (fun r4 => ca_cellAt (i := 4) (by omega) hL (fun r5 =>
    ⟨12, 2196, by decide, by decide, ca_lawOf rfl r1 r2 r3 r4 r5⟩)))))
end
