section
/-! words as codes: the empty word is 0, a word and one more letter c is 4 * code + c + 1 -/
def wl_pc (l : Nat → Nat) : Nat → Nat
  | 0 => 0
  | j + 1 => 4 * wl_pc l j + l j + 1
def wl_lo : Nat → Nat
  | 0 => 0
  | n + 1 => 4 * wl_lo n + 1
def wl_len (z : Nat) : Nat := if z = 0 then 0 else if z < 5 then 1 else if z < 21 then 2 else if z < 85 then 3 else if z < 341 then 4 else 5
theorem wl_pc_lo (l : Nat → Nat) : ∀ n, wl_lo n ≤ wl_pc l n
  | 0 => Nat.le_refl 0
  | n + 1 => by
    have := wl_pc_lo l n
    show 4 * wl_lo n + 1 ≤ 4 * wl_pc l n + l n + 1
    omega
theorem wl_pc_hi (l : Nat → Nat) : ∀ n, (∀ i, i < n → l i < 4) → wl_pc l n ≤ 4 * wl_lo n
  | 0, _ => Nat.le_refl 0
  | n + 1, h => by
    have := wl_pc_hi l n (fun i hi => h i (by omega))
    have := h n (by omega)
    show 4 * wl_pc l n + l n + 1 ≤ 4 * (4 * wl_lo n + 1)
    omega
theorem wl_pc_len {l : Nat → Nat} {n : Nat} (h : ∀ i, i < n → l i < 4) (hn : n ≤ 5) : wl_len (wl_pc l n) = n := by
  have h1 := wl_pc_lo l n
  have h2 := wl_pc_hi l n h
  generalize wl_pc l n = z at h1 h2
  rcases (by omega : n = 0 ∨ n = 1 ∨ n = 2 ∨ n = 3 ∨ n = 4 ∨ n = 5) with e | e | e | e | e | e <;> subst e <;> simp only [wl_lo] at h1 h2 <;> unfold wl_len <;> (repeat' split) <;> omega
theorem wl_pc_341 {l : Nat → Nat} {n : Nat} (h : ∀ i, i < n → l i < 4) (hn : n ≤ 4) : wl_pc l n < 341 := by
  have h2 := wl_pc_hi l n h
  generalize wl_pc l n = z at h2
  rcases (by omega : n = 0 ∨ n = 1 ∨ n = 2 ∨ n = 3 ∨ n = 4) with e | e | e | e | e <;> subst e <;> simp only [wl_lo] at h2 <;> omega
theorem wl_pc_inj {l m : Nat → Nat} : ∀ n, (∀ i, i < n → l i < 4) → (∀ i, i < n → m i < 4) → wl_pc l n = wl_pc m n → ∀ i, i < n → l i = m i
  | 0, _, _, _ => fun i hi => absurd hi (by omega)
  | n + 1, h, k, e => by
    have e' : 4 * wl_pc l n + l n + 1 = 4 * wl_pc m n + m n + 1 := e
    have h1 := h n (by omega)
    have h2 := k n (by omega)
    intro i hi
    by_cases ei : i = n
    · subst ei
      omega
    · exact wl_pc_inj n (fun i hi => h i (by omega)) (fun i hi => k i (by omega)) (by omega) i (by omega)
theorem wl_pc_congr {l m : Nat → Nat} : ∀ n, (∀ i, i < n → l i = m i) → wl_pc l n = wl_pc m n
  | 0, _ => rfl
  | n + 1, h => by
    have := wl_pc_congr n (fun i hi => h i (by omega))
    have := h n (by omega)
    show 4 * wl_pc l n + l n + 1 = 4 * wl_pc m n + m n + 1
    omega
theorem wl_pc_ne {l m : Nat → Nat} {n k : Nat} (h : ∀ i, i < n → l i < 4) (g : ∀ i, i < k → m i < 4) (hn : n ≤ 5) (hk : k ≤ 5) (e : wl_pc l n = wl_pc m k) : n = k := by
  rw [← wl_pc_len h hn, ← wl_pc_len g hk, e]
def wl_par (w : Nat) : Nat := (w - 1) / 4
theorem wl_par_s {x c : Nat} (hc : c < 4) : wl_par (4 * x + c + 1) = x := by
  unfold wl_par
  omega
theorem wl_par_pc {l : Nat → Nat} : ∀ {n : Nat}, (∀ i, i < n → l i < 4) → wl_par (wl_pc l n) = wl_pc l (n - 1)
  | 0, _ => by simp [wl_par, wl_pc]
  | n + 1, h => wl_par_s (h n (by omega))
def wl_ip (x w : Nat) : Bool := decide (x = w ∨ x = wl_par w ∨ x = wl_par (wl_par w) ∨ x = wl_par (wl_par (wl_par w)) ∨ x = wl_par (wl_par (wl_par (wl_par w))))
theorem wl_ip_iff {x w : Nat} : wl_ip x w = true ↔ (x = w ∨ x = wl_par w ∨ x = wl_par (wl_par w) ∨ x = wl_par (wl_par (wl_par w)) ∨ x = wl_par (wl_par (wl_par (wl_par w)))) := decide_eq_true_iff
theorem wl_ip_self (w : Nat) : wl_ip w w = true := wl_ip_iff.mpr (Or.inl rfl)
theorem wl_ip_0 {w : Nat} (h : w < 341) : wl_ip 0 w = true := by
  refine wl_ip_iff.mpr (Or.inr (Or.inr (Or.inr (Or.inr ?_))))
  unfold wl_par
  omega
theorem wl_ip_up {x c w : Nat} (hc : c < 4) (hw : w < 341) (h : wl_ip (4 * x + c + 1) w = true) : wl_ip x w = true := by
  have h4 : wl_par (wl_par (wl_par (wl_par w))) = 0 := by
    unfold wl_par
    omega
  rcases wl_ip_iff.mp h with e | e | e | e | e
  · exact wl_ip_iff.mpr (Or.inr (Or.inl (by rw [← e, wl_par_s hc])))
  · exact wl_ip_iff.mpr (Or.inr (Or.inr (Or.inl (by rw [← e, wl_par_s hc]))))
  · exact wl_ip_iff.mpr (Or.inr (Or.inr (Or.inr (Or.inl (by rw [← e, wl_par_s hc])))))
  · exact wl_ip_iff.mpr (Or.inr (Or.inr (Or.inr (Or.inr (by rw [← e, wl_par_s hc])))))
  · omega
theorem wl_ip_pc {l : Nat → Nat} {n x : Nat} (h : ∀ i, i < n → l i < 4) (hn : n ≤ 4) : wl_ip x (wl_pc l n) = true ↔ ∃ j, j ≤ n ∧ x = wl_pc l j := by
  rw [wl_ip_iff, wl_par_pc h, wl_par_pc (fun i hi => h i (by omega)), wl_par_pc (fun i hi => h i (by omega)), wl_par_pc (fun i hi => h i (by omega))]
  constructor
  · rintro (e | e | e | e | e)
    · exact ⟨n, by omega, e⟩
    · exact ⟨n - 1, by omega, e⟩
    · exact ⟨n - 1 - 1, by omega, e⟩
    · exact ⟨n - 1 - 1 - 1, by omega, e⟩
    · exact ⟨n - 1 - 1 - 1 - 1, by omega, e⟩
  · rintro ⟨j, hj, e⟩
    rcases (by omega : j = n ∨ j = n - 1 ∨ j = n - 1 - 1 ∨ j = n - 1 - 1 - 1 ∨ j = n - 1 - 1 - 1 - 1) with z | z | z | z | z <;> rw [z] at e
    · exact Or.inl e
    · exact Or.inr (Or.inl e)
    · exact Or.inr (Or.inr (Or.inl e))
    · exact Or.inr (Or.inr (Or.inr (Or.inl e)))
    · exact Or.inr (Or.inr (Or.inr (Or.inr e)))
theorem wl_ip_new {l : Nat → Nat} {i : Nat} (h : ∀ j, j < i + 1 → l j < 4) (hi : i + 1 ≤ 4) : wl_ip (wl_pc l (i + 1)) (wl_pc l i) = false := by
  cases e : wl_ip (wl_pc l (i + 1)) (wl_pc l i)
  · rfl
  · obtain ⟨j, hj, ej⟩ := (wl_ip_pc (fun j hj => h j (by omega)) (by omega)).mp e
    exact absurd (wl_pc_ne h (fun k hk => h k (by omega)) (by omega) (by omega) ej) (by omega)
theorem wl_ip_succ {l : Nat → Nat} {i y : Nat} (h : ∀ j, j < i + 1 → l j < 4) (hi : i + 1 ≤ 4) (hy : y ≠ wl_pc l (i + 1)) : wl_ip y (wl_pc l (i + 1)) = wl_ip y (wl_pc l i) := by
  rw [Bool.eq_iff_iff, wl_ip_pc h hi, wl_ip_pc (fun j hj => h j (by omega)) (by omega)]
  constructor
  · rintro ⟨j, hj, e⟩
    refine ⟨j, ?_, e⟩
    by_cases ej : j = i + 1
    · subst ej
      exact absurd e hy
    · omega
  · rintro ⟨j, hj, e⟩
    exact ⟨j, by omega, e⟩
/-! counting -/
def wl_ls (p : Nat → Bool) : Nat → List Nat
  | 0 => []
  | n + 1 => if p n = true then n :: wl_ls p n else wl_ls p n
def wl_cn (p : Nat → Bool) (n : Nat) : Nat := (wl_ls p n).length
theorem wl_ls_t {p : Nat → Bool} {n : Nat} (h : p n = true) : wl_ls p (n + 1) = n :: wl_ls p n := if_pos h
theorem wl_ls_f {p : Nat → Bool} {n : Nat} (h : p n = false) : wl_ls p (n + 1) = wl_ls p n := if_neg (by rw [h]; decide)
theorem wl_ls_mem {p : Nat → Bool} {w : Nat} : ∀ n, w ∈ wl_ls p n ↔ w < n ∧ p w = true
  | 0 => ⟨fun h => absurd h List.not_mem_nil, fun h => absurd h.1 (by omega)⟩
  | n + 1 => by
    have ih := wl_ls_mem (p := p) (w := w) n
    cases e : p n
    · rw [wl_ls_f e, ih]
      refine ⟨fun h => ⟨by omega, h.2⟩, fun h => ⟨?_, h.2⟩⟩
      by_cases ew : w = n
      · rw [ew, e] at h
        exact absurd h.2 (by decide)
      · omega
    · rw [wl_ls_t e, List.mem_cons, ih]
      refine ⟨fun h => ?_, fun h => ?_⟩
      · rcases h with h | h
        · exact ⟨by omega, by rw [h]; exact e⟩
        · exact ⟨by omega, h.2⟩
      · by_cases ew : w = n
        · exact Or.inl ew
        · exact Or.inr ⟨by omega, h.2⟩
theorem wl_ls_congr {p q : Nat → Bool} : ∀ n, (∀ w, w < n → p w = q w) → wl_ls p n = wl_ls q n
  | 0, _ => rfl
  | n + 1, h => by
    have ih := wl_ls_congr n (fun w hw => h w (by omega))
    have e := h n (by omega)
    cases e1 : p n
    · rw [wl_ls_f e1, wl_ls_f (by rw [← e]; exact e1), ih]
    · rw [wl_ls_t e1, wl_ls_t (by rw [← e]; exact e1), ih]
theorem wl_cn_congr {p q : Nat → Bool} {n : Nat} (h : ∀ w, w < n → p w = q w) : wl_cn p n = wl_cn q n := by
  unfold wl_cn
  rw [wl_ls_congr n h]
theorem wl_cn_add {p q : Nat → Bool} {w : Nat} (hp : p w = false) (hq : q w = true) (h : ∀ v, v ≠ w → p v = q v) : ∀ n, w < n → wl_cn q n = wl_cn p n + 1
  | 0, hw => absurd hw (by omega)
  | n + 1, hw => by
    by_cases e : w = n
    · subst e
      unfold wl_cn
      rw [wl_ls_t hq, wl_ls_f hp, List.length_cons, wl_ls_congr w (fun v hv => h v (by omega))]
    · have ih := wl_cn_add hp hq h n (by omega)
      have en := h n (fun z => e z.symm)
      unfold wl_cn at ih ⊢
      cases e1 : p n
      · rw [wl_ls_f e1, wl_ls_f (by rw [← en]; exact e1), ih]
      · rw [wl_ls_t e1, wl_ls_t (by rw [← en]; exact e1), List.length_cons, List.length_cons, ih]
theorem wl_cn_pos {p : Nat → Bool} {n w : Nat} (hw : w < n) (h : p w = true) : 0 < wl_cn p n :=
  List.length_pos_of_mem ((wl_ls_mem n).mpr ⟨hw, h⟩)
theorem wl_cn_ex {p : Nat → Bool} {n : Nat} (h : 0 < wl_cn p n) : ∃ w, w < n ∧ p w = true := by
  obtain ⟨w, hw⟩ := List.exists_mem_of_length_pos h
  exact ⟨w, (wl_ls_mem n).mp hw⟩
theorem wl_cn_one {p : Nat → Bool} {n w v : Nat} (h : wl_cn p n = 1) (hw : w < n) (pw : p w = true) (hv : v < n) (pv : p v = true) : w = v := by
  have m1 := (wl_ls_mem n).mpr ⟨hw, pw⟩
  have m2 := (wl_ls_mem n).mpr ⟨hv, pv⟩
  unfold wl_cn at h
  obtain ⟨a, ea⟩ := List.length_eq_one_iff.mp h
  rw [ea, List.mem_singleton] at m1 m2
  rw [m1, m2]
theorem wl_pig : ∀ (n : Nat) (L : List Nat), L.length < n → ∃ k, k < n ∧ k ∉ L
  | 0, L, h => absurd h (by omega)
  | n + 1, L, h => by
    by_cases e : n ∈ L
    · have hl := List.length_erase_of_mem e
      have hp := List.length_pos_of_mem e
      obtain ⟨k, hk, hn⟩ := wl_pig n (L.erase n) (by omega)
      exact ⟨k, by omega, fun z => hn ((List.mem_erase_of_ne (by omega)).mpr z)⟩
    · exact ⟨n, by omega, e⟩
/-- how many known words lie under the code x -/
def wl_N (D : Nat → Int32) (x : Nat) : Nat := wl_cn (fun w => decide (0 ≤ D w) && wl_ip x w) 341
def wl_W (D : Nat → Int32) : List Nat := wl_ls (fun w => decide (0 ≤ D w)) 341
theorem wl_W_mem {D : Nat → Int32} {w : Nat} : w ∈ wl_W D ↔ w < 341 ∧ 0 ≤ D w := by
  unfold wl_W
  rw [wl_ls_mem]
  simp
theorem wl_N_0 (D : Nat → Int32) : wl_N D 0 = (wl_W D).length :=
  wl_cn_congr (p := fun w => decide (0 ≤ D w) && wl_ip 0 w) (q := fun w => decide (0 ≤ D w)) (fun w hw => by simp [wl_ip_0 hw])
theorem wl_N_ex {D : Nat → Int32} {x : Nat} (h : 0 < wl_N D x) : ∃ w, w < 341 ∧ 0 ≤ D w ∧ wl_ip x w = true := by
  obtain ⟨w, hw, e⟩ := wl_cn_ex h
  simp at e
  exact ⟨w, hw, e.1, e.2⟩
theorem wl_N_pos {D : Nat → Int32} {x w : Nat} (hw : w < 341) (h : 0 ≤ D w) (hx : wl_ip x w = true) : 0 < wl_N D x :=
  wl_cn_pos hw (by simp [h, hx])
theorem wl_N_one {D : Nat → Int32} {x w v : Nat} (h : wl_N D x = 1) (hw : w < 341) (hD : 0 ≤ D w) (hx : wl_ip x w = true) (hv : v < 341) (kD : 0 ≤ D v) (kx : wl_ip x v = true) : w = v :=
  wl_cn_one h hw (by simp [hD, hx]) hv (by simp [kD, kx])
theorem wl_N_keep {D E : Nat → Int32} (h : ∀ w, 0 ≤ D w ↔ 0 ≤ E w) (x : Nat) : wl_N E x = wl_N D x :=
  wl_cn_congr (fun w _ => by simp [h w])
theorem wl_N_add {D E : Nat → Int32} {w : Nat} (hw : w < 341) (hD : ¬ 0 ≤ D w) (hE : 0 ≤ E w) (h : ∀ v, v ≠ w → E v = D v) (x : Nat) : wl_N E x = wl_N D x + (if wl_ip x w = true then 1 else 0) := by
  by_cases hx : wl_ip x w = true
  · rw [if_pos hx]
    exact wl_cn_add (w := w) (by simp [hD]) (by simp [hE, hx]) (fun v hv => by simp [h v hv]) 341 hw
  · rw [if_neg hx]
    refine wl_cn_congr (fun v _ => ?_)
    by_cases e : v = w
    · subst e
      simp [hx]
    · simp [h v e]
end
section
/-! the tree in two arrays: φ: code of a state to its cell (0: not there, but for the root), b: a state's base -/
theorem wl_ne1 {k : Nat} (h : k < 2 ^ 31) : ¬ nI k = -1 := fun e => nI_pos h (by rw [e]; decide)
def wl_live (φ : Nat → Nat) (x : Nat) : Prop := x = 0 ∨ φ x ≠ 0
def wl_tr (φ b : Nat → Nat) (β : Nat → Nat → Nat) (a1 a2 : Nat → Int32) : Prop :=
  φ 0 = 0 ∧ a2 0 = nI 0 ∧ (∀ x, wl_live φ x → a1 (φ x) = nI (b x) ∧ b x < 500) ∧
  (∀ x c, c < 4 → φ (4 * x + c + 1) ≠ 0 → wl_live φ x ∧ φ (4 * x + c + 1) = β x c + c + 1 ∧ φ (4 * x + c + 1) < 512 ∧ a2 (φ (4 * x + c + 1)) = nI (φ x)) ∧
  (∀ i, 0 < i → i < 512 → a2 i = -1 ∨ ∃ z, φ z = i) ∧
  (∀ y z, φ y ≠ 0 → φ y = φ z → y = z)
def wl_nv (φ : Nat → Nat) (a f : Nat → Int32) : Prop := ∀ x, wl_live φ x → a (φ x) = f x
theorem wl_dec {x : Nat} (h : x ≠ 0) : ∃ y c, c < 4 ∧ x = 4 * y + c + 1 := ⟨(x - 1) / 4, (x - 1) % 4, by omega, by omega⟩
theorem wl_tr_lt {φ b : Nat → Nat} {β : Nat → Nat → Nat} {a1 a2 : Nat → Int32} (h : wl_tr φ b β a1 a2) {x : Nat} (hx : wl_live φ x) : φ x < 512 := by
  by_cases e : x = 0
  · rw [e, h.1]
    omega
  · obtain ⟨y, c, hc, rfl⟩ := wl_dec e
    rcases hx with hx | hx
    · exact absurd hx e
    · exact (h.2.2.2.1 y c hc hx).2.2.1
theorem wl_tr_lt' {φ b : Nat → Nat} {β : Nat → Nat → Nat} {a1 a2 : Nat → Int32} (h : wl_tr φ b β a1 a2) (x : Nat) : φ x < 512 := by
  by_cases e : φ x = 0
  · omega
  · exact wl_tr_lt h (Or.inr e)
theorem wl_tr_par {φ b : Nat → Nat} {β : Nat → Nat → Nat} {a1 a2 : Nat → Int32} (h : wl_tr φ b β a1 a2) {x : Nat} (hx : wl_live φ x) : wl_live φ (wl_par x) := by
  by_cases e : x = 0
  · rw [e]
    exact Or.inl rfl
  · obtain ⟨y, c, hc, rfl⟩ := wl_dec e
    rw [wl_par_s hc]
    rcases hx with hx | hx
    · exact absurd hx e
    · exact (h.2.2.2.1 y c hc hx).1
theorem wl_tr_ip {φ b : Nat → Nat} {β : Nat → Nat → Nat} {a1 a2 : Nat → Int32} (h : wl_tr φ b β a1 a2) {x w : Nat} (hw : wl_live φ w) (hx : wl_ip x w = true) : wl_live φ x := by
  have h1 := wl_tr_par h hw
  have h2 := wl_tr_par h h1
  have h3 := wl_tr_par h h2
  have h4 := wl_tr_par h h3
  rcases wl_ip_iff.mp hx with e | e | e | e | e <;> rw [e] <;> assumption
theorem wl_tr_inj {φ b : Nat → Nat} {β : Nat → Nat → Nat} {a1 a2 : Nat → Int32} (h : wl_tr φ b β a1 a2) {x y : Nat} (hx : wl_live φ x) (hy : wl_live φ y) (e : φ x = φ y) : x = y := by
  by_cases e0 : φ x = 0
  · rcases hx with hx | hx
    · rcases hy with hy | hy
      · rw [hx, hy]
      · exact absurd (e ▸ e0) hy
    · exact absurd e0 hx
  · exact h.2.2.2.2.2 x y e0 e
theorem wl_tr_use {φ b : Nat → Nat} {β : Nat → Nat → Nat} {a1 a2 : Nat → Int32} (h : wl_tr φ b β a1 a2) {y : Nat} (hy : φ y ≠ 0) : ∃ k, k < 512 ∧ a2 (φ y) = nI k := by
  have e : y ≠ 0 := fun e => hy (by rw [e]; exact h.1)
  obtain ⟨x, c, hc, rfl⟩ := wl_dec e
  exact ⟨φ x, wl_tr_lt' h x, (h.2.2.2.1 x c hc hy).2.2.2⟩
theorem wl_tr_free {φ b : Nat → Nat} {β : Nat → Nat → Nat} {a1 a2 : Nat → Int32} (h : wl_tr φ b β a1 a2) {i : Nat} (hi : 0 < i) (hf : a2 i = -1) (y : Nat) : φ y ≠ i := by
  intro e
  obtain ⟨k, hk, ek⟩ := wl_tr_use h (y := y) (by omega)
  rw [e, hf] at ek
  exact wl_ne1 (k := k) (by omega) ek.symm
/-- the child of a state by a letter: its cell's check says whether it is there -/
theorem wl_ch1 {φ b : Nat → Nat} {β : Nat → Nat → Nat} {a1 a2 : Nat → Int32} (h : wl_tr φ b β a1 a2) {x c : Nat} (hβ : ∀ d, d < 4 → β x d = b x) (hc : c < 4) (hz : φ (4 * x + c + 1) ≠ 0) : φ (4 * x + c + 1) = b x + c + 1 ∧ a2 (b x + c + 1) = nI (φ x) := by
  obtain ⟨_, e, _, ea⟩ := h.2.2.2.1 x c hc hz
  rw [hβ c hc] at e
  rw [e] at ea
  exact ⟨e, ea⟩
theorem wl_ch0 {φ b : Nat → Nat} {β : Nat → Nat → Nat} {a1 a2 : Nat → Int32} (h : wl_tr φ b β a1 a2) {x c : Nat} (hx : wl_live φ x) (hβ : ∀ d, d < 4 → β x d = b x) (hc : c < 4) (hz : φ (4 * x + c + 1) = 0) : ¬ a2 (b x + c + 1) = nI (φ x) := by
  intro e
  have hb := (h.2.2.1 x hx).2
  have hl := wl_tr_lt h hx
  rcases h.2.2.2.2.1 (b x + c + 1) (by omega) (by omega) with f | ⟨z, ez⟩
  · rw [f] at e
    exact wl_ne1 (k := φ x) (by omega) e.symm
  · have hz0 : z ≠ 0 := fun e0 => by
      rw [e0, h.1] at ez
      omega
    obtain ⟨y, d, hd, rfl⟩ := wl_dec hz0
    obtain ⟨ly, e1, e2, e3⟩ := h.2.2.2.1 y d hd (by omega)
    rw [ez, e, nI_eq (by omega) (by have := wl_tr_lt h ly; omega)] at e3
    have exy := wl_tr_inj h hx ly e3
    subst exy
    rw [hβ d hd] at e1
    have : d = c := by omega
    subst this
    omega
theorem wl_tr_beta {φ b : Nat → Nat} {β γ : Nat → Nat → Nat} {a1 a2 : Nat → Int32} (h : wl_tr φ b β a1 a2) (hg : ∀ x c, c < 4 → φ (4 * x + c + 1) ≠ 0 → γ x c = β x c) : wl_tr φ b γ a1 a2 := by
  obtain ⟨h1, h2, h3, h4, h5, h6⟩ := h
  refine ⟨h1, h2, h3, fun x c hc hz => ?_, h5, h6⟩
  obtain ⟨g1, g2, g3, g4⟩ := h4 x c hc hz
  exact ⟨g1, by rw [hg x c hc hz]; exact g2, g3, g4⟩
/-- a state moves to a free cell -/
theorem wl_mv {φ b : Nat → Nat} {β : Nat → Nat → Nat} {a1 a2 s1 s2 : Nat → Int32} (h : wl_tr φ b β a1 a2) {x c z T : Nat} (ez : z = 4 * x + c + 1) (hc : c < 4) (hz : φ z ≠ 0) (ht : T + c + 1 < 512) (hf : a2 (T + c + 1) = -1) (hβ : ∀ d, d < 4 → β z d = b z)
    (h1 : s1 (T + c + 1) = a1 (φ z)) (h1' : ∀ i, i ≠ T + c + 1 → i ≠ φ z → s1 i = a1 i)
    (h2 : s2 (φ z) = -1) (h2' : ∀ i, i ≠ φ z → s2 i = if b z < i ∧ i ≤ b z + 4 ∧ upd a2 (T + c + 1) (a2 (φ z)) i = nI (φ z) then nI (T + c + 1) else upd a2 (T + c + 1) (a2 (φ z)) i) :
    wl_tr (fun y => if y = z then T + c + 1 else φ y) b (fun y d => if y = x ∧ d = c then T else β y d) s1 s2 := by
  have hz' : φ (4 * x + c + 1) ≠ 0 := by rw [← ez]; exact hz
  obtain ⟨lx, gx, gx', ax⟩ := h.2.2.2.1 x c hc hz'
  rw [← ez] at gx gx' ax
  have hfr : ∀ y, φ y ≠ T + c + 1 := wl_tr_free h (by omega) hf
  have lz : wl_live φ z := Or.inr hz
  have hzx : x ≠ z := by omega
  have hz0 : z ≠ 0 := by omega
  have hlt : ∀ y, φ y < 512 := wl_tr_lt' h
  have hlive : ∀ y, wl_live (fun y => if y = z then T + c + 1 else φ y) y → wl_live φ y := by
    intro y hy
    by_cases e : y = z
    · rw [e]; exact lz
    · rcases hy with hy | hy
      · exact Or.inl hy
      · refine Or.inr ?_
        simpa [e] using hy
  have hne : ∀ y, wl_live φ y → y ≠ z → φ y ≠ φ z := fun y hy e g => e (wl_tr_inj h hy lz g)
  obtain ⟨k1, k2, k3, k4, k5, k6⟩ := h
  refine ⟨by simp [Ne.symm hz0, k1], ?_, ?_, ?_, ?_, ?_⟩
  · have e0 : (0 : Nat) ≠ φ z := fun e => hz e.symm
    rw [h2' 0 e0, if_neg (by omega), pk_un (by omega)]
    exact k2
  · intro y hy
    have ly := hlive y hy
    by_cases e : y = z
    · subst e
      simp only [if_pos]
      rw [h1]
      exact k3 y lz
    · simp only [if_neg e]
      rw [h1' _ (hfr y) (hne y ly e)]
      exact k3 y ly
  · intro y d hd hy
    by_cases e : 4 * y + d + 1 = z
    · have ey : y = x := by omega
      have ed : d = c := by omega
      subst ey ed
      have enz : ¬ y = z := hzx
      simp only [if_pos e, and_self, if_pos, if_neg enz]
      refine ⟨?_, trivial, ht, ?_⟩
      · rcases lx with lx | lx
        · exact Or.inl lx
        · refine Or.inr ?_
          simpa [enz] using lx
      · rw [h2' _ (fun g => hfr z g.symm), pk_us, ax, if_neg (fun g => ?_)]
        have := (nI_eq (by have := hlt y; omega) (by have := hlt z; omega)).mp g.2.2
        exact hne y lx enz this
    · simp only [if_neg e] at hy ⊢
      obtain ⟨ly, g1, g2, g3⟩ := k4 y d hd hy
      have nn : φ (4 * y + d + 1) ≠ φ z := hne _ (Or.inr hy) e
      have nt : φ (4 * y + d + 1) ≠ T + c + 1 := hfr _
      have hyd : ¬ (y = x ∧ d = c) := fun g => e (by rw [g.1, g.2]; exact ez.symm)
      simp only [if_neg hyd]
      refine ⟨?_, g1, g2, ?_⟩
      · by_cases ey : y = z
        · refine Or.inr ?_
          simp [ey]
        · rcases ly with ly | ly
          · exact Or.inl ly
          · refine Or.inr ?_
            simpa [ey] using ly
      · rw [h2' _ nn, pk_un nt, g3]
        by_cases ey : y = z
        · subst ey
          rw [hβ d hd] at g1
          simp only [if_pos]
          rw [if_pos ⟨by omega, by omega, trivial⟩]
        · simp only [if_neg ey]
          rw [if_neg]
          intro g
          have := (nI_eq (by have := hlt y; omega) (by have := hlt z; omega)).mp g.2.2
          exact hne y ly ey this
  · intro i hi hi'
    by_cases e : i = φ z
    · rw [e]
      exact Or.inl h2
    · by_cases et : i = T + c + 1
      · exact Or.inr ⟨z, by simp [et]⟩
      · rcases k5 i hi hi' with g | ⟨y, g⟩
        · left
          rw [h2' i e, pk_un et, g, if_neg]
          intro gg
          exact wl_ne1 (k := φ z) (by have := hlt z; omega) gg.2.2.symm
        · right
          refine ⟨y, ?_⟩
          have : y ≠ z := fun ey => e (by rw [← ey, g])
          simp only [if_neg this]
          exact g
  · intro y y' hy e
    by_cases ey : y = z
    · by_cases ey' : y' = z
      · rw [ey, ey']
      · simp only [if_pos ey, if_neg ey'] at e
        exact absurd e.symm (hfr y')
    · by_cases ey' : y' = z
      · simp only [if_neg ey, if_pos ey'] at e
        exact absurd e (hfr y)
      · simp only [if_neg ey, if_neg ey'] at e hy
        exact k6 y y' hy e
theorem wl_mv_free {φ b : Nat → Nat} {a2 s2 : Nat → Int32} {z t : Nat} (hl : φ z < 512) (h2' : ∀ i, i ≠ φ z → s2 i = if b z < i ∧ i ≤ b z + 4 ∧ upd a2 t (a2 (φ z)) i = nI (φ z) then nI t else upd a2 t (a2 (φ z)) i) (h2 : s2 (φ z) = -1) {i : Nat} (hi : i ≠ t) (hf : a2 i = -1) : s2 i = -1 := by
  by_cases e : i = φ z
  · rw [e]; exact h2
  · rw [h2' i e, pk_un hi, hf, if_neg]
    intro g
    exact wl_ne1 (k := φ z) (by omega) g.2.2.symm
theorem wl_mv_nv {φ b : Nat → Nat} {β : Nat → Nat → Nat} {a1 a2 a s f : Nat → Int32} (h : wl_tr φ b β a1 a2) (hn : wl_nv φ a f) {z t : Nat} (hz : φ z ≠ 0) (h0 : 0 < t) (hf : a2 t = -1)
    (h1 : s t = a (φ z)) (h1' : ∀ i, i ≠ t → i ≠ φ z → s i = a i) : wl_nv (fun y => if y = z then t else φ y) s f := by
  intro y hy
  by_cases e : y = z
  · simp only [if_pos e]
    rw [h1, e]
    exact hn z (Or.inr hz)
  · have ly : wl_live φ y := by
      rcases hy with hy | hy
      · exact Or.inl hy
      · refine Or.inr ?_
        simpa [e] using hy
    simp only [if_neg e]
    rw [h1' _ (wl_tr_free h h0 hf y) (fun g => e (wl_tr_inj h ly (Or.inr hz) g))]
    exact hn y ly
/-- the base of a state is set anew, all its children having moved -/
theorem wl_rebase {φ b : Nat → Nat} {β : Nat → Nat → Nat} {a1 a2 : Nat → Int32} (h : wl_tr φ b β a1 a2) {x T : Nat} (hx : wl_live φ x) (hT : T < 500) (hβ : ∀ c, c < 4 → φ (4 * x + c + 1) ≠ 0 → β x c = T) (hβ' : ∀ y c, y ≠ x → β y c = b y) :
    wl_tr φ (fun y => if y = x then T else b y) (fun y _ => if y = x then T else b y) (upd a1 (φ x) (nI T)) a2 := by
  have hinj := fun y (ly : wl_live φ y) => wl_tr_inj h ly hx
  obtain ⟨k1, k2, k3, k4, k5, k6⟩ := h
  refine ⟨k1, k2, ?_, ?_, k5, k6⟩
  · intro y ly
    by_cases e : y = x
    · subst e
      simp only [if_pos]
      exact ⟨pk_us, hT⟩
    · simp only [if_neg e]
      rw [pk_un (fun g => e (hinj y ly g))]
      exact k3 y ly
  · intro y c hc hz
    obtain ⟨g1, g2, g3, g4⟩ := k4 y c hc hz
    refine ⟨g1, ?_, g3, g4⟩
    by_cases e : y = x
    · subst e
      simp only [if_pos]
      rw [hβ c hc hz] at g2
      exact g2
    · simp only [if_neg e]
      rw [hβ' y c e] at g2
      exact g2
/-- a new state at a free cell -/
theorem wl_ins {φ b : Nat → Nat} {a1 a2 : Nat → Int32} (h : wl_tr φ b (fun x _ => b x) a1 a2) {x c z : Nat} (ez : z = 4 * x + c + 1) (hc : c < 4) (hx : wl_live φ x) (hz : φ z = 0) (hf : a2 (b x + c + 1) = -1) :
    wl_tr (fun y => if y = z then b x + c + 1 else φ y) (fun y => if y = z then 0 else b y) (fun y _ => if y = z then 0 else b y) (upd a1 (b x + c + 1) 0) (upd a2 (b x + c + 1) (nI (φ x))) := by
  have hb := (h.2.2.1 x hx).2
  have hfr : ∀ y, φ y ≠ b x + c + 1 := wl_tr_free h (by omega) hf
  have hz0 : z ≠ 0 := by omega
  have hzx : ¬ x = z := by omega
  have hlive : ∀ y, y ≠ z → wl_live (fun y => if y = z then b x + c + 1 else φ y) y → wl_live φ y := by
    intro y e hy
    rcases hy with hy | hy
    · exact Or.inl hy
    · refine Or.inr ?_
      simpa [e] using hy
  have hlive' : ∀ y, wl_live φ y → wl_live (fun y => if y = z then b x + c + 1 else φ y) y := by
    intro y hy
    by_cases e : y = z
    · refine Or.inr ?_
      simp [e]
    · rcases hy with hy | hy
      · exact Or.inl hy
      · refine Or.inr ?_
        simpa [e] using hy
  obtain ⟨k1, k2, k3, k4, k5, k6⟩ := h
  refine ⟨by simp [Ne.symm hz0, k1], ?_, ?_, ?_, ?_, ?_⟩
  · rw [pk_un (by omega)]
    exact k2
  · intro y hy
    by_cases e : y = z
    · simp only [if_pos e]
      exact ⟨pk_us, by omega⟩
    · simp only [if_neg e]
      rw [pk_un (hfr y)]
      exact k3 y (hlive y e hy)
  · intro y d hd hy
    by_cases e : 4 * y + d + 1 = z
    · have ey : y = x := by omega
      have ed : d = c := by omega
      subst ey ed
      simp only [if_pos e, if_neg hzx]
      exact ⟨hlive' _ hx, trivial, by omega, pk_us⟩
    · simp only [if_neg e] at hy ⊢
      obtain ⟨ly, g1, g2, g3⟩ := k4 y d hd hy
      have ey : ¬ y = z := by
        intro ey
        rcases ly with ly | ly
        · omega
        · rw [ey] at ly
          exact ly hz
      simp only [if_neg ey]
      rw [pk_un (hfr _)]
      exact ⟨hlive' _ ly, g1, g2, g3⟩
  · intro i hi hi'
    by_cases et : i = b x + c + 1
    · exact Or.inr ⟨z, by simp [et]⟩
    · rw [pk_un et]
      rcases k5 i hi hi' with g | ⟨y, g⟩
      · exact Or.inl g
      · right
        refine ⟨y, ?_⟩
        have : y ≠ z := fun ey => by
          rw [ey, hz] at g
          omega
        simp only [if_neg this]
        exact g
  · intro y y' hy e
    by_cases ey : y = z
    · by_cases ey' : y' = z
      · rw [ey, ey']
      · simp only [if_pos ey, if_neg ey'] at e
        exact absurd e.symm (hfr y')
    · by_cases ey' : y' = z
      · simp only [if_neg ey, if_pos ey'] at e
        exact absurd e (hfr y)
      · simp only [if_neg ey, if_neg ey'] at e hy
        exact k6 y y' hy e
theorem wl_ins_nv {φ : Nat → Nat} {a f : Nat → Int32} (hn : wl_nv φ a f) {z i : Nat} {v : Int32} (hz : z ≠ 0) (hfr : ∀ y, φ y ≠ i) (hv : v = f z) : wl_nv (fun y => if y = z then i else φ y) (upd a i v) f := by
  intro y hy
  by_cases e : y = z
  · simp only [if_pos e]
    rw [pk_us, hv, e]
  · have ly : wl_live φ y := by
      rcases hy with hy | hy
      · exact Or.inl hy
      · refine Or.inr ?_
        simpa [e] using hy
    simp only [if_neg e]
    rw [pk_un (hfr y)]
    exact hn y ly
theorem wl_nv_up {φ b : Nat → Nat} {β : Nat → Nat → Nat} {a1 a2 a f g : Nat → Int32} (h : wl_tr φ b β a1 a2) (hn : wl_nv φ a f) {x : Nat} {v : Int32} (hx : wl_live φ x) (hg : v = g x) (hg' : ∀ y, y ≠ x → g y = f y) : wl_nv φ (upd a (φ x) v) g := by
  intro y ly
  by_cases e : y = x
  · subst e
    rw [pk_us, hg]
  · rw [pk_un (fun z => e (wl_tr_inj h ly hx z)), hg' y e]
    exact hn y ly
/-- room: at most 17 words of at most 4 letters leave one of 125 rows of four cells free -/
theorem wl_room {φ b : Nat → Nat} {β : Nat → Nat → Nat} {a1 a2 : Nat → Int32} (h : wl_tr φ b β a1 a2) (L : List Nat) (hL : L.length ≤ 17) (hc : ∀ z, φ z ≠ 0 → ∃ w, w ∈ L ∧ wl_ip z w = true) : ∃ k, k < 125 ∧ ∀ c, c < 4 → a2 (4 * k + c + 1) = -1 := by
  have hlen : ∀ M : List Nat, ((M.flatMap (fun w => [w, wl_par w, wl_par (wl_par w), wl_par (wl_par (wl_par w)), wl_par (wl_par (wl_par (wl_par w)))])).map (fun z => (φ z - 1) / 4)).length = 5 * M.length := by
    intro M
    induction M with
    | nil => rfl
    | cons a M ih =>
      simp only [List.flatMap_cons, List.map_append, List.length_append, List.length_map, List.length_cons, List.length_nil] at ih ⊢
      omega
  obtain ⟨k, hk, hn⟩ := wl_pig 125 ((L.flatMap (fun w => [w, wl_par w, wl_par (wl_par w), wl_par (wl_par (wl_par w)), wl_par (wl_par (wl_par (wl_par w)))])).map (fun z => (φ z - 1) / 4)) (by rw [hlen]; omega)
  refine ⟨k, hk, fun c hc' => ?_⟩
  rcases h.2.2.2.2.1 (4 * k + c + 1) (by omega) (by omega) with g | ⟨z, g⟩
  · exact g
  · exfalso
    obtain ⟨w, hw, hi⟩ := hc z (by omega)
    refine hn (List.mem_map.mpr ⟨z, List.mem_flatMap.mpr ⟨w, hw, ?_⟩, by omega⟩)
    rcases wl_ip_iff.mp hi with e | e | e | e | e <;> rw [e] <;> simp
end
section
/-! the table of cuts, from the text's end on: (cheapest, number, first length) of a place and a kind before it -/
def wl_st (way nr l : Int32) (s : Int32 × Int32 × Int32) : Int32 × Int32 × Int32 :=
  if s.1 ≤ way then (if way = s.1 then (s.1, s.2.1 + nr, l) else s) else (way, nr, l)
def wl_way (fc : Nat → Nat → Int32) (kk : Nat → Nat → Nat) (a8 a9 : Nat → Int32) (p k l : Nat) : Int32 :=
  fc p l + a9 (5 * (p + l) + kk p l) + (if k < 4 then a8 (4 * k + kk p l) else 0)
def wl_F (fc : Nat → Nat → Int32) (kk : Nat → Nat → Nat) (a8 a9 a10 : Nat → Int32) (p k : Nat) (z : Int32) : Nat → Int32 × Int32 × Int32
  | 0 => (1000000, 0, z)
  | l + 1 => if fc p (l + 1) < 0 then wl_F fc kk a8 a9 a10 p k z l else wl_st (wl_way fc kk a8 a9 p k (l + 1)) (a10 (5 * (p + (l + 1)) + kk p (l + 1))) (nI (l + 1)) (wl_F fc kk a8 a9 a10 p k z l)
def wl_DP (fc : Nat → Nat → Int32) (kk : Nat → Nat → Nat) (n : Nat) (a8 a9 a10 a11 : Nat → Int32) : Prop :=
  (∀ k, k < 5 → a9 (5 * n + k) = 0 ∧ a10 (5 * n + k) = 1 ∧ a11 (5 * n + k) = 0) ∧
  ∀ p k, p < n → k < 5 → ∃ z, (a9 (5 * p + k), a10 (5 * p + k), a11 (5 * p + k)) = wl_F fc kk a8 a9 a10 p k z 5
/-- what the pieces' costs and kinds and the links are -/
def wl_PF (fc : Nat → Nat → Int32) (kk : Nat → Nat → Nat) (n : Nat) (a8 : Nat → Int32) : Prop :=
  (∀ p l, fc p l < 0 ∨ ((∃ c, c ≤ 32 ∧ fc p l = nI c) ∧ p + l ≤ n ∧ kk p l < 4)) ∧ (∀ p, p < n → ¬ fc p 1 < 0) ∧ (∀ j, j < 16 → ∃ v, v ≤ 15 ∧ a8 j = nI v)
def wl_good (fc : Nat → Nat → Int32) (kk : Nat → Nat → Nat) (n : Nat) (a8 a9 a11 : Nat → Int32) : Prop :=
  ∀ p k, p < n → k < 5 → ∃ j, a11 (5 * p + k) = nI j ∧ 1 ≤ j ∧ j ≤ 5 ∧ p + j ≤ n ∧ ¬ fc p j < 0 ∧ kk p j < 4 ∧ a9 (5 * p + k) = wl_way fc kk a8 a9 p k j
def wl_Q (n : Nat) (a9 a10 : Nat → Int32) (p : Nat) : Prop :=
  ∀ k, k < 5 → ∃ c m, a9 (5 * p + k) = nI c ∧ c ≤ 47 * (n - p) ∧ a10 (5 * p + k) = nI m ∧ 1 ≤ m ∧ m ≤ 5 ^ (n - p)
theorem wl_st_lt {w c : Nat} (m1 l s2 s3 : Int32) (hw : w < c) (hc : c < 2 ^ 31) : wl_st (nI w) m1 l (nI c, s2, s3) = (nI w, m1, l) := if_neg (nI_ge hw hc)
theorem wl_st_eq {w : Nat} (m1 l s2 s3 : Int32) (hw : w < 2 ^ 31) : wl_st (nI w) m1 l (nI w, s2, s3) = (nI w, s2 + m1, l) := by
  unfold wl_st
  rw [if_pos (nI_le (Nat.le_refl w) hw), if_pos rfl]
theorem wl_st_gt {w c : Nat} (m1 l s2 s3 : Int32) (hw : c < w) (hc : w < 2 ^ 31) : wl_st (nI w) m1 l (nI c, s2, s3) = (nI c, s2, s3) := by
  unfold wl_st
  rw [if_pos (nI_le (Nat.le_of_lt hw) hc), if_neg (fun g => absurd ((nI_eq hc (by omega)).mp g) (by omega))]
theorem wl_F_congr {fc fd : Nat → Nat → Int32} {kk kl : Nat → Nat → Nat} {a8 a9 a10 b9 b10 : Nat → Int32} {p k : Nat} {z : Int32} (h : ∀ l, 1 ≤ l → fd p l = fc p l) (g : ∀ l, 1 ≤ l → ¬ fc p l < 0 → kl p l = kk p l ∧ b9 (5 * (p + l) + kk p l) = a9 (5 * (p + l) + kk p l) ∧ b10 (5 * (p + l) + kk p l) = a10 (5 * (p + l) + kk p l)) :
    ∀ l, wl_F fd kl a8 b9 b10 p k z l = wl_F fc kk a8 a9 a10 p k z l
  | 0 => rfl
  | l + 1 => by
    have ih := wl_F_congr (a8 := a8) (k := k) (z := z) h g l
    have e := h (l + 1) (by omega)
    unfold wl_F
    rw [e]
    by_cases c : fc p (l + 1) < 0
    · rw [if_pos c, if_pos c]
      exact ih
    · rw [if_neg c, if_neg c]
      obtain ⟨e1, e2, e3⟩ := g (l + 1) (by omega) c
      unfold wl_way
      rw [ih, e1, e2, e3, e]
theorem wl_step {fc : Nat → Nat → Int32} {kk : Nat → Nat → Nat} {n : Nat} {a8 a9 a10 : Nat → Int32} (hp : wl_PF fc kk n a8) {p k l : Nat} (hn : p < n) (hn' : n ≤ 12) (hk : k < 5) (hq : ∀ q, p < q → q ≤ n → wl_Q n a9 a10 q) (hl : 1 ≤ l) (hc : ¬ fc p l < 0) :
    ∃ w m, wl_way fc kk a8 a9 p k l = nI w ∧ w ≤ 47 * (n - p) ∧ a10 (5 * (p + l) + kk p l) = nI m ∧ 1 ≤ m ∧ m ≤ 5 ^ (n - p - 1) ∧ p + l ≤ n ∧ kk p l < 4 := by
  rcases hp.1 p l with g | ⟨⟨c0, h0, e0⟩, hpl, hkk⟩
  · exact absurd g hc
  · obtain ⟨c1, m, e1, h1, e2, h2, h3⟩ := hq (p + l) (by omega) hpl (kk p l) (by omega)
    have hv : ∃ v, v ≤ 15 ∧ (if k < 4 then a8 (4 * k + kk p l) else 0) = nI v := by
      by_cases g : k < 4
      · rw [if_pos g]
        exact hp.2.2 _ (by omega)
      · rw [if_neg g]
        exact ⟨0, by omega, rfl⟩
    obtain ⟨v, hv, ev⟩ := hv
    refine ⟨c0 + c1 + v, m, ?_, by omega, e2, h2, Nat.le_trans h3 (Nat.pow_le_pow_right (by omega) (by omega)), hpl, hkk⟩
    unfold wl_way
    rw [e0, e1, ev, nI_add, nI_add]
theorem wl_fold {fc : Nat → Nat → Int32} {kk : Nat → Nat → Nat} {n : Nat} {a8 a9 a10 : Nat → Int32} (hp : wl_PF fc kk n a8) {p k : Nat} {z : Int32} (hn : p < n) (hn' : n ≤ 12) (hk : k < 5) (hq : ∀ q, p < q → q ≤ n → wl_Q n a9 a10 q) :
    ∀ l, ∃ c m j, wl_F fc kk a8 a9 a10 p k z (l + 1) = (nI c, nI m, nI j) ∧ c ≤ 47 * (n - p) ∧ nI c = wl_way fc kk a8 a9 p k j ∧ 1 ≤ m ∧ m ≤ (l + 1) * 5 ^ (n - p - 1) ∧ 1 ≤ j ∧ j ≤ l + 1 ∧ p + j ≤ n ∧ ¬ fc p j < 0 ∧ kk p j < 4
  | 0 => by
    have hc := hp.2.1 p hn
    obtain ⟨w, m, e1, h1, e2, h2, h3, h4, h5⟩ := wl_step hp (k := k) hn hn' hk hq (Nat.le_refl 1) hc
    refine ⟨w, m, 1, ?_, h1, e1.symm, h2, by omega, by omega, by omega, h4, hc, h5⟩
    show (if fc p 1 < 0 then wl_F fc kk a8 a9 a10 p k z 0 else wl_st (wl_way fc kk a8 a9 p k 1) (a10 (5 * (p + 1) + kk p 1)) (nI 1) (wl_F fc kk a8 a9 a10 p k z 0)) = _
    rw [if_neg hc, e1, e2]
    exact wl_st_lt (c := 1000000) _ _ _ _ (by omega) (by omega)
  | l + 1 => by
    obtain ⟨c, m, j, e, i1, i2, i3, i4, i5, i6, i7, i8, i9⟩ := wl_fold hp (z := z) hn hn' hk hq l
    have hm : (l + 1 + 1) * 5 ^ (n - p - 1) = (l + 1) * 5 ^ (n - p - 1) + 5 ^ (n - p - 1) := Nat.succ_mul _ _
    have hP : 0 < 5 ^ (n - p - 1) := Nat.pow_pos (by omega)
    show ∃ c m j, (if fc p (l + 1 + 1) < 0 then wl_F fc kk a8 a9 a10 p k z (l + 1) else wl_st (wl_way fc kk a8 a9 p k (l + 1 + 1)) (a10 (5 * (p + (l + 1 + 1)) + kk p (l + 1 + 1))) (nI (l + 1 + 1)) (wl_F fc kk a8 a9 a10 p k z (l + 1))) = (nI c, nI m, nI j) ∧ _
    by_cases hc : fc p (l + 1 + 1) < 0
    · rw [if_pos hc]
      exact ⟨c, m, j, e, i1, i2, i3, by omega, i5, by omega, i7, i8, i9⟩
    · obtain ⟨w, m1, e1, h1, e2, h2, h3, h4, h5⟩ := wl_step hp (k := k) hn hn' hk hq (show 1 ≤ l + 1 + 1 by omega) hc
      rw [if_neg hc, e1, e2, e]
      rcases Nat.lt_trichotomy w c with g | g | g
      · rw [wl_st_lt _ _ _ _ g (by omega)]
        exact ⟨w, m1, l + 1 + 1, rfl, h1, e1.symm, h2, by omega, by omega, by omega, h4, hc, h5⟩
      · subst g
        rw [wl_st_eq _ _ _ _ (by omega), nI_add]
        exact ⟨w, m + m1, l + 1 + 1, rfl, h1, e1.symm, by omega, by omega, by omega, by omega, h4, hc, h5⟩
      · rw [wl_st_gt _ _ _ _ g (by omega)]
        exact ⟨c, m, j, rfl, i1, i2, i3, by omega, i5, by omega, i7, i8, i9⟩
theorem wl_F_z {fc : Nat → Nat → Int32} {kk : Nat → Nat → Nat} {n : Nat} {a8 a9 a10 : Nat → Int32} (hp : wl_PF fc kk n a8) {p k : Nat} {z y : Int32} (hn : p < n) (hn' : n ≤ 12) (hk : k < 5) (hq : ∀ q, p < q → q ≤ n → wl_Q n a9 a10 q) :
    ∀ l, wl_F fc kk a8 a9 a10 p k z (l + 1) = wl_F fc kk a8 a9 a10 p k y (l + 1)
  | 0 => by
    have hc := hp.2.1 p hn
    obtain ⟨w, m, e1, h1, e2, h2, h3, h4, h5⟩ := wl_step hp (k := k) hn hn' hk hq (Nat.le_refl 1) hc
    have key : ∀ x : Int32, wl_F fc kk a8 a9 a10 p k x (0 + 1) = (nI w, nI m, nI 1) := by
      intro x
      show (if fc p 1 < 0 then wl_F fc kk a8 a9 a10 p k x 0 else wl_st (wl_way fc kk a8 a9 p k 1) (a10 (5 * (p + 1) + kk p 1)) (nI 1) (wl_F fc kk a8 a9 a10 p k x 0)) = _
      rw [if_neg hc, e1, e2]
      exact wl_st_lt (c := 1000000) _ _ _ _ (by omega) (by omega)
    rw [key z, key y]
  | l + 1 => by
    have ih := wl_F_z hp (z := z) (y := y) hn hn' hk hq l
    unfold wl_F
    rw [ih]
theorem wl_DP_Q {fc : Nat → Nat → Int32} {kk : Nat → Nat → Nat} {n : Nat} {a8 a9 a10 a11 : Nat → Int32} (hp : wl_PF fc kk n a8) (hd : wl_DP fc kk n a8 a9 a10 a11) (hn' : n ≤ 12) : ∀ d p, p + d = n → ∀ q, p ≤ q → q ≤ n → wl_Q n a9 a10 q := by
  intro d
  induction d with
  | zero =>
    intro p e q h1 h2 k hk
    have : q = n := by omega
    subst this
    obtain ⟨e1, e2, _⟩ := hd.1 k hk
    exact ⟨0, 1, e1, by omega, e2, by omega, by rw [Nat.sub_self]; omega⟩
  | succ d ih =>
    intro p e q h1 h2 k hk
    by_cases ep : p + 1 ≤ q
    · exact ih (p + 1) (by omega) q ep h2 k hk
    · have : q = p := by omega
      subst this
      obtain ⟨z, ez⟩ := hd.2 q k (by omega) hk
      obtain ⟨c, m, j, e, i1, i2, i3, i4, i5, i6, i7, i8, i9⟩ := wl_fold hp (z := z) (show q < n by omega) hn' hk (fun r r1 r2 => ih (q + 1) (by omega) r (by omega) r2) 4
      rw [ez.symm] at e
      injection e with e1 e'
      injection e' with e2 e3
      refine ⟨c, m, e1, i1, e2, i3, ?_⟩
      rw [show n - q = (n - q - 1) + 1 by omega, Nat.pow_succ]
      omega
theorem wl_DP_Q' {fc : Nat → Nat → Int32} {kk : Nat → Nat → Nat} {n : Nat} {a8 a9 a10 a11 : Nat → Int32} (hp : wl_PF fc kk n a8) (hd : wl_DP fc kk n a8 a9 a10 a11) (hn' : n ≤ 12) (q : Nat) (hq : q ≤ n) : wl_Q n a9 a10 q :=
  wl_DP_Q hp hd hn' n 0 (by omega) q (by omega) hq
theorem wl_DP_good {fc : Nat → Nat → Int32} {kk : Nat → Nat → Nat} {n : Nat} {a8 a9 a10 a11 : Nat → Int32} (hp : wl_PF fc kk n a8) (hd : wl_DP fc kk n a8 a9 a10 a11) (hn' : n ≤ 12) : wl_good fc kk n a8 a9 a11 := by
  intro p k hn hk
  obtain ⟨z, ez⟩ := hd.2 p k hn hk
  obtain ⟨c, m, j, e, i1, i2, i3, i4, i5, i6, i7, i8, i9⟩ := wl_fold hp (z := z) hn hn' hk (fun r r1 r2 => wl_DP_Q' hp hd hn' r r2) 4
  rw [ez.symm] at e
  injection e with e1 e'
  injection e' with e2 e3
  exact ⟨j, e3, i5, i6, i7, i8, i9, by rw [e1]; exact i2⟩
theorem wl_DP_ways {fc : Nat → Nat → Int32} {kk : Nat → Nat → Nat} {n : Nat} {a8 a9 a10 a11 : Nat → Int32} (hp : wl_PF fc kk n a8) (hd : wl_DP fc kk n a8 a9 a10 a11) (hn' : n ≤ 12) : 1 ≤ a10 4 := by
  obtain ⟨c, m, e1, h1, e2, h2, h3⟩ := wl_DP_Q' hp hd hn' 0 (by omega) 4 (by omega)
  have : (5 : Nat) ^ (n - 0) ≤ 5 ^ 12 := Nat.pow_le_pow_right (by omega) (by omega)
  have e2' : a10 4 = nI m := e2
  rw [e2']
  exact nI_le (a := 1) h2 (by omega)
theorem wl_uniq {fc fd : Nat → Nat → Int32} {kk kl : Nat → Nat → Nat} {n : Nat} {a8 a9 a10 a11 b9 b10 b11 : Nat → Int32} (hp : wl_PF fc kk n a8) (hd : wl_DP fc kk n a8 a9 a10 a11) (hd' : wl_DP fd kl n a8 b9 b10 b11) (hn' : n ≤ 12)
    (h : ∀ p l, 1 ≤ l → fd p l = fc p l) (hk : ∀ p l, 1 ≤ l → ¬ fc p l < 0 → kl p l = kk p l) :
    ∀ d p, p + d = n → ∀ q k, p ≤ q → q ≤ n → k < 5 → b9 (5 * q + k) = a9 (5 * q + k) ∧ b10 (5 * q + k) = a10 (5 * q + k) ∧ b11 (5 * q + k) = a11 (5 * q + k) := by
  intro d
  induction d with
  | zero =>
    intro p e q k h1 h2 hk5
    have : q = n := by omega
    subst this
    obtain ⟨e1, e2, e3⟩ := hd.1 k hk5
    obtain ⟨g1, g2, g3⟩ := hd'.1 k hk5
    rw [e1, e2, e3, g1, g2, g3]
    exact ⟨rfl, rfl, rfl⟩
  | succ d ih =>
    intro p e q k h1 h2 hk5
    by_cases ep : p + 1 ≤ q
    · exact ih (p + 1) (by omega) q k ep h2 hk5
    · have : q = p := by omega
      subst this
      obtain ⟨z, ez⟩ := hd.2 q k (by omega) hk5
      obtain ⟨y, ey⟩ := hd'.2 q k (by omega) hk5
      have cg : wl_F fd kl a8 b9 b10 q k y 5 = wl_F fc kk a8 a9 a10 q k y 5 := by
        refine wl_F_congr (fun l hl => h q l hl) (fun l hl hc => ?_) 5
        rcases hp.1 q l with g | ⟨_, hpl, hkk⟩
        · exact absurd g hc
        · obtain ⟨i1, i2, _⟩ := ih (q + 1) (by omega) (q + l) (kk q l) (by omega) hpl (by omega)
          exact ⟨hk q l hl hc, i1, i2⟩
      have zz : wl_F fc kk a8 a9 a10 q k y 5 = wl_F fc kk a8 a9 a10 q k z 5 := wl_F_z hp (by omega) hn' hk5 (fun r r1 r2 => wl_DP_Q' hp hd hn' r r2) 4
      rw [cg, zz, ← ez] at ey
      injection ey with e1 e'
      injection e' with e2 e3
      exact ⟨e1, e2, e3⟩
/-! the chosen pieces -/
def wl_sw (a11 : Nat → Int32) (kk : Nat → Nat → Nat) (n : Nat) : Nat → Nat × Nat
  | 0 => (0, 4)
  | m + 1 => if n ≤ (wl_sw a11 kk n m).1 then wl_sw a11 kk n m else
      ((wl_sw a11 kk n m).1 + (a11 (5 * (wl_sw a11 kk n m).1 + (wl_sw a11 kk n m).2)).toNatClampNeg, kk (wl_sw a11 kk n m).1 (a11 (5 * (wl_sw a11 kk n m).1 + (wl_sw a11 kk n m).2)).toNatClampNeg)
def wl_sv (a11 : Nat → Int32) (kk : Nat → Nat → Nat) (n : Nat) : Nat → Int32
  | 0 => nI 0
  | m + 1 => if n ≤ (wl_sw a11 kk n m).1 then -1 else nI (wl_sw a11 kk n (m + 1)).1
theorem wl_sw_t {a11 : Nat → Int32} {kk : Nat → Nat → Nat} {n m : Nat} (h : n ≤ (wl_sw a11 kk n m).1) : wl_sw a11 kk n (m + 1) = wl_sw a11 kk n m := if_pos h
theorem wl_sw_f {a11 : Nat → Int32} {kk : Nat → Nat → Nat} {n m p k : Nat} (e : wl_sw a11 kk n m = (p, k)) (h : p < n) : wl_sw a11 kk n (m + 1) = (p + (a11 (5 * p + k)).toNatClampNeg, kk p (a11 (5 * p + k)).toNatClampNeg) := by
  have : ¬ n ≤ (wl_sw a11 kk n m).1 := by
    rw [e]
    show ¬ n ≤ p
    omega
  show (if n ≤ (wl_sw a11 kk n m).1 then _ else _) = _
  rw [if_neg this, e]
theorem wl_sw_stuck {a11 : Nat → Int32} {kk : Nat → Nat → Nat} {n m : Nat} (h : n ≤ (wl_sw a11 kk n m).1) : ∀ j, wl_sw a11 kk n (m + j) = wl_sw a11 kk n m
  | 0 => rfl
  | j + 1 => by
    have ih := wl_sw_stuck h j
    rw [← Nat.add_assoc, wl_sw_t (by rw [ih]; exact h), ih]
theorem wl_sw_step {fc : Nat → Nat → Int32} {kk : Nat → Nat → Nat} {n : Nat} {a8 a9 a11 : Nat → Int32} (g : wl_good fc kk n a8 a9 a11) {m p k : Nat} (e : wl_sw a11 kk n m = (p, k)) (hk : k < 5) (h : p < n) :
    ∃ j, wl_sw a11 kk n (m + 1) = (p + j, kk p j) ∧ a11 (5 * p + k) = nI j ∧ 1 ≤ j ∧ j ≤ 5 ∧ p + j ≤ n ∧ ¬ fc p j < 0 ∧ kk p j < 4 ∧ a9 (5 * p + k) = wl_way fc kk a8 a9 p k j := by
  obtain ⟨j, e1, h1, h2, h3, h4, h5, h6⟩ := g p k h hk
  refine ⟨j, ?_, e1, h1, h2, h3, h4, h5, h6⟩
  rw [wl_sw_f e h, e1, nI_clamp (by omega)]
theorem wl_sw_ok {fc : Nat → Nat → Int32} {kk : Nat → Nat → Nat} {n : Nat} {a8 a9 a11 : Nat → Int32} (g : wl_good fc kk n a8 a9 a11) : ∀ m, ∃ p k, wl_sw a11 kk n m = (p, k) ∧ k < 5 ∧ p ≤ n ∧ (m ≤ p ∨ n ≤ p)
  | 0 => ⟨0, 4, rfl, by omega, by omega, Or.inl (by omega)⟩
  | m + 1 => by
    obtain ⟨p, k, e, hk, hp, hm⟩ := wl_sw_ok g m
    by_cases h : n ≤ p
    · exact ⟨p, k, by rw [wl_sw_t (by rw [e]; exact h), e], hk, hp, Or.inr h⟩
    · obtain ⟨j, e', e1, h1, h2, h3, h4, h5, h6⟩ := wl_sw_step g e hk (by omega)
      exact ⟨p + j, kk p j, e', by omega, h3, by omega⟩
theorem wl_sw_same {fc : Nat → Nat → Int32} {kk kl : Nat → Nat → Nat} {n : Nat} {a8 a9 a11 b11 : Nat → Int32} (g : wl_good fc kk n a8 a9 a11) (hb : ∀ q k, q ≤ n → k < 5 → b11 (5 * q + k) = a11 (5 * q + k)) (hk : ∀ p l, 1 ≤ l → ¬ fc p l < 0 → kl p l = kk p l) :
    ∀ m, wl_sw b11 kl n m = wl_sw a11 kk n m
  | 0 => rfl
  | m + 1 => by
    have ih := wl_sw_same g hb hk m
    obtain ⟨p, k, e, hk5, hp, _⟩ := wl_sw_ok g m
    by_cases h : n ≤ p
    · rw [wl_sw_t (by rw [ih, e]; exact h), wl_sw_t (by rw [e]; exact h), ih]
    · obtain ⟨j, e', e1, h1, h2, h3, h4, h5, h6⟩ := wl_sw_step g e hk5 (by omega)
      rw [wl_sw_f (show wl_sw b11 kl n m = (p, k) by rw [ih, e]) (by omega), hb p k hp hk5, e1, nI_clamp (by omega), hk p j h1 h4, e']
theorem wl_sv_same {fc : Nat → Nat → Int32} {kk kl : Nat → Nat → Nat} {n : Nat} {a8 a9 a11 b11 : Nat → Int32} (g : wl_good fc kk n a8 a9 a11) (hb : ∀ q k, q ≤ n → k < 5 → b11 (5 * q + k) = a11 (5 * q + k)) (hk : ∀ p l, 1 ≤ l → ¬ fc p l < 0 → kl p l = kk p l) :
    ∀ m, wl_sv b11 kl n m = wl_sv a11 kk n m
  | 0 => rfl
  | m + 1 => by
    show (if n ≤ (wl_sw b11 kl n m).1 then (-1 : Int32) else nI (wl_sw b11 kl n (m + 1)).1) = (if n ≤ (wl_sw a11 kk n m).1 then (-1 : Int32) else nI (wl_sw a11 kk n (m + 1)).1)
    rw [wl_sw_same g hb hk m, wl_sw_same g hb hk (m + 1)]
/-- a place reached that is ahead of the text's end: start answers it -/
theorem wl_sv_at {a11 : Nat → Int32} {kk : Nat → Nat → Nat} {n : Nat} : ∀ {m p k : Nat}, wl_sw a11 kk n m = (p, k) → p < n → wl_sv a11 kk n m = nI p
  | 0, p, k, e, _ => by
    injection e with e1 e2
    rw [← e1]
    rfl
  | m + 1, p, k, e, h => by
    have hn : ¬ n ≤ (wl_sw a11 kk n m).1 := by
      intro g
      rw [wl_sw_t g] at e
      rw [e] at g
      exact absurd g (by show ¬ n ≤ p; omega)
    show (if n ≤ (wl_sw a11 kk n m).1 then (-1 : Int32) else nI (wl_sw a11 kk n (m + 1)).1) = _
    rw [if_neg hn, e]
theorem wl_sv_next {a11 : Nat → Int32} {kk : Nat → Nat → Nat} {n m p k : Nat} (e : wl_sw a11 kk n m = (p, k)) (h : p < n) : wl_sv a11 kk n (m + 1) = nI (wl_sw a11 kk n (m + 1)).1 := by
  have hn : ¬ n ≤ (wl_sw a11 kk n m).1 := by
    rw [e]
    show ¬ n ≤ p
    omega
  show (if n ≤ (wl_sw a11 kk n m).1 then (-1 : Int32) else nI (wl_sw a11 kk n (m + 1)).1) = _
  rw [if_neg hn]
end
section
/-! reading the dictionary: childOf, find, lookUp, fitPiece -/
def wl_RD (φ b : Nat → Nat) (D K a1 a2 a3 a4 : Nat → Int32) : Prop :=
  wl_tr φ b (fun x _ => b x) a1 a2 ∧ wl_nv φ a3 D ∧ wl_nv φ a4 K ∧ (∀ y, D y = -1 ∨ ((∃ c, c ≤ 15 ∧ D y = nI c) ∧ y < 341 ∧ φ y ≠ 0 ∧ K y = nI (wl_len y % 3)))
def wl_tc (t : Nat → Nat) (p l : Nat) : Nat := wl_pc (fun i => t (p + i)) l
def wl_fc (D : Nat → Int32) (t : Nat → Nat) (n : Nat) (pen : Int32) (p l : Nat) : Int32 := if p + l ≤ n then (if 0 ≤ D (wl_tc t p l) then D (wl_tc t p l) else if l = 1 then pen else -1) else -1
def wl_kk (D : Nat → Int32) (t : Nat → Nat) (n : Nat) (p l : Nat) : Nat := if p + l ≤ n then (if 0 ≤ D (wl_tc t p l) then l % 3 else 3) else 3
theorem wl_fc_out {D : Nat → Int32} {t : Nat → Nat} {n : Nat} {pen : Int32} {p l : Nat} (h : n < p + l) : wl_fc D t n pen p l = -1 ∧ wl_kk D t n p l = 3 :=
  ⟨if_neg (by omega), if_neg (by omega)⟩
theorem wl_fc_un {D : Nat → Int32} {t : Nat → Nat} {n : Nat} {pen : Int32} {p l : Nat} (h : p + l ≤ n) (hD : D (wl_tc t p l) = -1) : wl_fc D t n pen p l = (if l = 1 then pen else -1) ∧ wl_kk D t n p l = 3 := by
  have : ¬ (0 : Int32) ≤ D (wl_tc t p l) := by
    rw [hD]
    decide
  unfold wl_fc wl_kk
  rw [if_pos h, if_neg this, if_pos h, if_neg this]
  exact ⟨rfl, rfl⟩
theorem wl_fc_kn {D : Nat → Int32} {t : Nat → Nat} {n : Nat} {pen : Int32} {p l c : Nat} (h : p + l ≤ n) (hc : c ≤ 15) (hD : D (wl_tc t p l) = nI c) : wl_fc D t n pen p l = nI c ∧ wl_kk D t n p l = l % 3 := by
  have : (0 : Int32) ≤ D (wl_tc t p l) := by
    rw [hD]
    exact nI_pos' (by omega)
  unfold wl_fc wl_kk
  rw [if_pos h, if_pos this, if_pos h, if_pos this]
  exact ⟨hD, rfl⟩
theorem wl_live_pc {φ b : Nat → Nat} {β : Nat → Nat → Nat} {a1 a2 : Nat → Int32} (h : wl_tr φ b β a1 a2) {l : Nat → Nat} {n : Nat} (hl : ∀ i, i < n → l i < 4) (hv : wl_live φ (wl_pc l n)) : ∀ j, wl_live φ (wl_pc l (n - j))
  | 0 => hv
  | j + 1 => by
    have ih := wl_live_pc h hl hv j
    have := wl_tr_par h ih
    rw [wl_par_pc (fun i hi => hl i (by omega))] at this
    rw [show n - (j + 1) = n - j - 1 by omega]
    exact this
section
variable {f1 f2 f3 f4 f5 f6 : Int32} {a1 a2 a3 a4 a5 a6 a7 a8 a9 a10 a11 : Nat → Int32} {φ b : Nat → Nat} {β : Nat → Nat → Nat} {D K : Nat → Int32}
theorem wl_child {post : Int32 → Prop} (h : wl_tr φ b β a1 a2) {x c : Nat} (hx : wl_live φ x) (hβ : ∀ d, d < 4 → β x d = b x) (hc : c < 4) (H1 : φ (4 * x + c + 1) ≠ 0 → post (nI (φ (4 * x + c + 1)))) (H2 : φ (4 * x + c + 1) = 0 → post (-1)) : wpX_childOf post (f1, f2, f3, f4, f5, f6, a1, a2, a3, a4, a5, a6, a7, a8, a9, a10, a11) (nI (φ x)) (nI c) := by
  have hl := wl_tr_lt h hx
  obtain ⟨e1, e2⟩ := h.2.2.1 x hx
  refine And.intro (pk_in (φ x) 512 hl) (nm_r (e' := nI (b x + c + 1)) (by rw [nI_clamp (by omega), e1, nI_add, nI_1]) ?_)
  refine pk_le (b x + c + 1) 0 (fun z => absurd z (by omega)) (fun _ => ⟨pk_in (b x + c + 1) 512 (by omega), ?_⟩)
  rw [nI_clamp (show b x + c + 1 < 2 ^ 31 by omega)]
  by_cases hz : φ (4 * x + c + 1) = 0
  · exact br_f (wl_ch0 h hx hβ hc hz) (H2 hz)
  · obtain ⟨g1, g2⟩ := wl_ch1 h hβ hc hz
    exact br_t g2 (by rw [← g1]; exact H1 hz)
theorem wl_child_raw {post : Int32 → Prop} {k B c : Nat} (hk : k < 512) (hB : B < 500) (hc : c < 4) (e1 : a1 k = nI B) (e2 : a2 (B + c + 1) = nI k) (H : post (nI (B + c + 1))) : wpX_childOf post (f1, f2, f3, f4, f5, f6, a1, a2, a3, a4, a5, a6, a7, a8, a9, a10, a11) (nI k) (nI c) := by
  refine And.intro (pk_in k 512 hk) (nm_r (e' := nI (B + c + 1)) (by rw [nI_clamp (by omega), e1, nI_add, nI_1]) ?_)
  refine pk_le (B + c + 1) 0 (fun z => absurd z (by omega)) (fun _ => ⟨pk_in (B + c + 1) 512 (by omega), ?_⟩)
  rw [nI_clamp (show B + c + 1 < 2 ^ 31 by omega)]
  exact br_t e2 H
theorem wl_find {post : Int32 → Prop} (h : wl_tr φ b (fun x _ => b x) a1 a2) {l : Nat → Nat} {n : Nat} (hn : n ≤ 5) (hl : ∀ i, i < n → l i < 4) (h6 : ∀ i, i < n → a6 i = nI (l i)) (H1 : wl_live φ (wl_pc l n) → post (nI (φ (wl_pc l n)))) (H2 : ¬ wl_live φ (wl_pc l n) → post (-1)) : wpX_find post (f1, nI n, f3, f4, f5, f6, a1, a2, a3, a4, a5, a6, a7, a8, a9, a10, a11) := by
  have key : ∀ m i, i + m = n → wl_live φ (wl_pc l i) → wX_find_4 post f1 (nI n) f3 f4 f5 f6 a1 a2 a3 a4 a5 a6 a7 a8 a9 a10 a11 (m + 1) (nI (φ (wl_pc l i))) (nI i) := by
    intro m
    induction m with
    | zero =>
      intro i e hv
      have : i = n := by omega
      subst this
      exact pk_le i i (fun _ => H1 hv) (fun z => absurd z (by omega))
    | succ m ih =>
      intro i e hv
      have hlt := wl_tr_lt h hv
      refine pk_le n i (fun z => absurd z (by omega)) (fun _ => br_f (nI_pos (by omega)) ⟨pk_in i 5 (by omega), ?_⟩)
      rw [nI_clamp (show i < 2 ^ 31 by omega), h6 i (by omega)]
      refine wl_child h hv (fun _ _ => rfl) (hl i (by omega)) (fun g => nm_r (nI_1 i) (ih (i + 1) (by omega) (Or.inr g))) (fun g => nm_r (nI_1 i) ?_)
      have nl : ¬ wl_live φ (wl_pc l n) := by
        intro hv'
        have := wl_live_pc h hl hv' (n - (i + 1))
        rw [show n - (n - (i + 1)) = i + 1 by omega] at this
        rcases this with t | t
        · exact absurd t (by show 4 * wl_pc l i + l i + 1 ≠ 0; omega)
        · exact t g
      exact pk_le n (i + 1) (fun _ => H2 nl) (fun _ => br_t (by decide) (H2 nl))
  have k0 := key n 0 (by omega) (Or.inl rfl)
  rw [show wl_pc l 0 = 0 from rfl, h.1] at k0
  exact ⟨n + 1, k0⟩
theorem wl_look {post : Int32 → Prop} (h : wl_RD φ b D K a1 a2 a3 a4) {l : Nat → Nat} {n : Nat} (hn : n ≤ 5) (hl : ∀ i, i < n → l i < 4) (h6 : ∀ i, i < n → a6 i = nI (l i)) (H : post (D (wl_pc l n))) : wpX_lookUp post (f1, nI n, f3, f4, f5, f6, a1, a2, a3, a4, a5, a6, a7, a8, a9, a10, a11) := by
  refine wl_find h.1 hn hl h6 (fun hv => ?_) (fun hv => ?_)
  · have hlt := wl_tr_lt h.1 hv
    refine br_t (nI_pos' (by omega)) ⟨pk_in _ 512 hlt, ?_⟩
    rw [nI_clamp (by omega), h.2.1 _ hv]
    exact H
  · have e : D (wl_pc l n) = -1 := by
      rcases h.2.2.2 (wl_pc l n) with e | e
      · exact e
      · exact absurd (Or.inr e.2.2.1) hv
    rw [e] at H
    exact br_f (by decide) H
theorem wl_fit {post : St2 → Prop} (h : wl_RD φ b D K a1 a2 a3 a4) {t : Nat → Nat} {n : Nat} (hn : n ≤ 12) (ht : ∀ i, i < n → t i < 4 ∧ a7 i = nI (t i)) {p l : Nat} (hp : p ≤ 12) (hl1 : 1 ≤ l) (hl : l ≤ 5)
    (H : post (f1, f2, nI n, f4, wl_fc D t n f1 p l, nI (wl_kk D t n p l), a1, a2, a3, a4, a5, a6, a7, a8, a9, a10, a11)) : wpX_fitPiece post (f1, f2, nI n, f4, f5, f6, a1, a2, a3, a4, a5, a6, a7, a8, a9, a10, a11) (nI p) (nI l) := by
  refine pk_le (p + l) n (fun hle => ?_) (fun hgt => ?_) (nI_add p l)
  · have hl4 : ∀ i, i < l → t (p + i) < 4 := fun i hi => (ht (p + i) (by omega)).1
    have E93 : D (wl_tc t p l) = -1 → wX_fitPiece_93 post (nI l) f1 f2 (nI n) f4 (-1) 3 a1 a2 a3 a4 a5 a6 a7 a8 a9 a10 a11 := by
      intro eD
      obtain ⟨g1, g2⟩ := wl_fc_un (pen := f1) hle eD
      rw [g1, g2] at H
      refine pk_eq l 1 (fun e => ?_) (fun e => ?_)
      · rw [if_pos e] at H
        exact H
      · rw [if_neg e] at H
        exact H
    have D57 : ¬ wl_live φ (wl_tc t p l) → wX_fitPiece_57 post (nI l) (-1) f1 f2 (nI n) f4 (-1) 3 a1 a2 a3 a4 a5 a6 a7 a8 a9 a10 a11 := by
      intro hv
      refine br_t (by decide) (E93 ?_)
      rcases h.2.2.2 (wl_tc t p l) with e | e
      · exact e
      · exact absurd (Or.inr e.2.2.1) hv
    have E57 : wl_live φ (wl_tc t p l) → wX_fitPiece_57 post (nI l) (nI (φ (wl_tc t p l))) f1 f2 (nI n) f4 (-1) 3 a1 a2 a3 a4 a5 a6 a7 a8 a9 a10 a11 := by
      intro hv
      have hlt := wl_tr_lt h.1 hv
      refine br_f (nI_pos (by omega)) ⟨pk_in _ 512 hlt, ?_⟩
      rw [nI_clamp (show φ (wl_tc t p l) < 2 ^ 31 by omega), h.2.1 _ hv, h.2.2.1 _ hv]
      rcases h.2.2.2 (wl_tc t p l) with e | ⟨⟨c, hc, e⟩, _, _, eK⟩
      · exact br_t (by rw [e]; decide) (E93 e)
      · obtain ⟨g1, g2⟩ := wl_fc_kn (pen := f1) hle hc e
        have : wl_len (wl_tc t p l) = l := wl_pc_len hl4 hl
        rw [this] at eK
        rw [g1, g2] at H
        exact br_f (by rw [e]; exact nI_pos (by omega)) ⟨pk_in _ 512 hlt, nm_r e ⟨pk_in _ 512 hlt, nm_r eK H⟩⟩
    have key : ∀ m i, i + m = l → wl_live φ (wl_tc t p i) → wX_fitPiece_26 post (nI p) (nI l) f1 f2 (nI n) f4 (-1) 3 a1 a2 a3 a4 a5 a6 a7 a8 a9 a10 a11 (m + 1) (nI (φ (wl_tc t p i))) (nI i) := by
      intro m
      induction m with
      | zero =>
        intro i e hv
        have : i = l := by omega
        subst this
        exact pk_le i i (fun _ => E57 hv) (fun z => absurd z (by omega))
      | succ m ih =>
        intro i e hv
        have hlt := wl_tr_lt h.1 hv
        refine pk_le l i (fun z => absurd z (by omega)) (fun _ => br_f (nI_pos (by omega)) ?_)
        rw [nI_add]
        refine ⟨pk_in (p + i) 12 (by omega), ?_⟩
        rw [nI_clamp (show p + i < 2 ^ 31 by omega), (ht (p + i) (by omega)).2]
        refine wl_child h.1 hv (fun _ _ => rfl) (hl4 i (by omega)) (fun g => nm_r (nI_1 i) (ih (i + 1) (by omega) (Or.inr g))) (fun g => nm_r (nI_1 i) ?_)
        have nl : ¬ wl_live φ (wl_tc t p l) := by
          intro hv'
          have := wl_live_pc h.1 (l := fun i => t (p + i)) hl4 hv' (l - (i + 1))
          rw [show l - (l - (i + 1)) = i + 1 by omega] at this
          rcases this with s | s
          · exact absurd s (by show 4 * wl_pc (fun i => t (p + i)) i + t (p + i) + 1 ≠ 0; omega)
          · exact s g
        exact pk_le l (i + 1) (fun _ => D57 nl) (fun _ => br_t (by decide) (D57 nl))
    have k0 := key l 0 (by omega) (Or.inl rfl)
    rw [show wl_tc t p 0 = 0 from rfl, h.1.1] at k0
    exact ⟨l + 1, k0⟩
  · obtain ⟨g1, g2⟩ := wl_fc_out (D := D) (t := t) (pen := f1) hgt
    rw [g1, g2] at H
    exact H
end
end
section
/-! moving states: release, moveState, freeBase, moveChildren, addChild -/
def wl_TS (φ b : Nat → Nat) (β : Nat → Nat → Nat) (D K N a1 a2 a3 a4 a5 : Nat → Int32) : Prop :=
  wl_tr φ b β a1 a2 ∧ wl_nv φ a3 D ∧ wl_nv φ a4 K ∧ wl_nv φ a5 N
theorem wl_bit : ∀ s, s < 16 → ∀ c, c < 4 → ((((nI s).toUInt32 >>> ((nI c).toUInt32 &&& Int32.toUInt32 31)).toInt32 &&& 1) = 0 ↔ s.testBit c = false) := by decide +kernel
theorem wl_set : ∀ s, s < 16 → ∀ c, c < 4 → (nI s ||| ((1 : Int32) <<< (nI c &&& 31))) = nI (s ||| 2 ^ c) := by decide +kernel
theorem wl_set16 : ∀ s, s < 16 → ∀ c, c < 4 → (s ||| 2 ^ c) < 16 := by decide +kernel
theorem wl_setb : ∀ s, s < 16 → ∀ c, c < 4 → ∀ d, d < 4 → (s ||| 2 ^ c).testBit d = (s.testBit d || decide (d = c)) := by decide +kernel
theorem wl_tr_neg {φ b : Nat → Nat} {β : Nat → Nat → Nat} {a1 a2 : Nat → Int32} (h : wl_tr φ b β a1 a2) {i : Nat} (hi : 0 < i) (hi' : i < 512) (hf : a2 i < 0) : a2 i = -1 := by
  rcases h.2.2.2.2.1 i hi hi' with g | ⟨z, g⟩
  · exact g
  · obtain ⟨k, hk, e⟩ := wl_tr_use h (y := z) (by omega)
    rw [g] at e
    rw [e] at hf
    exact absurd hf (nI_pos (by omega))
section
variable {f1 f2 f3 f4 f5 f6 : Int32} {a1 a2 a3 a4 a5 a6 a7 a8 a9 a10 a11 : Nat → Int32} {φ b : Nat → Nat} {β : Nat → Nat → Nat} {D K N : Nat → Int32}
theorem wl_rel {post : St2 → Prop} {i : Nat} (hi : i < 512) (H : post (f1, f2, f3, f4, f5, f6, upd a1 i 0, upd a2 i (-1), upd a3 i (-1), a4, upd a5 i 0, a6, a7, a8, a9, a10, a11)) : wpX_release post (f1, f2, f3, f4, f5, f6, a1, a2, a3, a4, a5, a6, a7, a8, a9, a10, a11) (nI i) := by
  have e : (nI i).toNatClampNeg = i := nI_clamp (by omega)
  refine And.intro (pk_in i 512 hi) (nm_r (by rw [e]) (And.intro (pk_in i 512 hi) (nm_r (by rw [e]) (And.intro (pk_in i 512 hi) (nm_r (by rw [e]) (And.intro (pk_in i 512 hi) (nm_r (by rw [e]) H)))))))
theorem wl_ms62 {post : St2 → Prop} {fr to B : Nat} {A : Nat → Int32} (hB : B < 500) (hfr : fr < 512) (hb : a1 fr = nI B) (H : ∀ s2, (∀ i, s2 i = if B < i ∧ i ≤ B + 4 ∧ A i = nI fr then nI to else A i) → post (f1, f2, f3, f4, f5, f6, upd a1 fr 0, upd s2 fr (-1), upd a3 fr (-1), a4, upd a5 fr 0, a6, a7, a8, a9, a10, a11)) :
    ∀ m c s2, c + m = 4 → (∀ i, s2 i = if B < i ∧ i ≤ B + c ∧ A i = nI fr then nI to else A i) → wX_moveState_62 post (nI fr) (nI to) f1 f2 f3 f4 f5 f6 (m + 1) (nI (c + 1)) a1 s2 a3 a4 a5 a6 a7 a8 a9 a10 a11 := by
  intro m
  induction m with
  | zero =>
    intro c s2 e hs
    have : c = 4 := by omega
    subst this
    exact pk_lt 4 5 (fun _ => wl_rel hfr (H s2 hs)) (fun z => absurd z (by omega))
  | succ m ih =>
    intro c s2 e hs
    refine pk_lt 4 (c + 1) (fun z => absurd z (by omega)) (fun _ => And.intro (pk_in fr 512 hfr) ?_)
    rw [nI_clamp (show fr < 2 ^ 31 by omega), hb, nI_add]
    refine And.intro (pk_in (B + (c + 1)) 512 (by omega)) ?_
    rw [nI_clamp (show B + (c + 1) < 2 ^ 31 by omega)]
    have e1 : s2 (B + (c + 1)) = A (B + (c + 1)) := by
      rw [hs, if_neg (by omega)]
    by_cases g : s2 (B + (c + 1)) = nI fr
    · refine br_t g ⟨pk_in fr 512 hfr, pk_in (B + (c + 1)) 512 (by omega), nm_e (nm_r (nI_1 (c + 1)) (ih (c + 1) _ (by omega) (fun i => ?_)))⟩
      by_cases ei : i = B + (c + 1)
      · rw [ei, pk_us, if_pos ⟨by omega, by omega, by rw [← e1]; exact g⟩]
      · rw [pk_un ei, hs]
        by_cases hi : B < i ∧ i ≤ B + c ∧ A i = nI fr
        · rw [if_pos hi, if_pos ⟨hi.1, by omega, hi.2.2⟩]
        · rw [if_neg hi, if_neg (fun z => hi ⟨z.1, by omega, z.2.2⟩)]
    · refine br_f g (nm_r (nI_1 (c + 1)) (ih (c + 1) s2 (by omega) (fun i => ?_)))
      rw [hs]
      by_cases hi : B < i ∧ i ≤ B + c ∧ A i = nI fr
      · rw [if_pos hi, if_pos ⟨hi.1, by omega, hi.2.2⟩]
      · rw [if_neg hi, if_neg (fun z => ?_)]
        by_cases ei : i = B + (c + 1)
        · rw [ei, ← e1] at z
          exact g z.2.2
        · exact hi ⟨z.1, by omega, z.2.2⟩
theorem wl_move {post : St2 → Prop} (h : wl_TS φ b β D K N a1 a2 a3 a4 a5) {x c z T : Nat} (ez : z = 4 * x + c + 1) (hc : c < 4) (hz : φ z ≠ 0) (ht : T + c + 1 < 512) (hf : a2 (T + c + 1) = -1) (hβ : ∀ d, d < 4 → β z d = b z)
    (H : ∀ ψ s1 s2 s3 s4 s5, wl_TS ψ b (fun y d => if y = x ∧ d = c then T else β y d) D K N s1 s2 s3 s4 s5 → (∀ y, y ≠ z → ψ y = φ y) → ψ z = T + c + 1 → (∀ i, i ≠ T + c + 1 → a2 i = -1 → s2 i = -1) → post (f1, f2, f3, f4, f5, f6, s1, s2, s3, s4, s5, a6, a7, a8, a9, a10, a11)) :
    wpX_moveState post (f1, f2, f3, f4, f5, f6, a1, a2, a3, a4, a5, a6, a7, a8, a9, a10, a11) (nI (φ z)) (nI (T + c + 1)) := by
  obtain ⟨h1, h3, h4, h5⟩ := h
  have hl := wl_tr_lt' h1 z
  have e1 : (nI (φ z)).toNatClampNeg = φ z := nI_clamp (by omega)
  have e2 : (nI (T + c + 1)).toNatClampNeg = T + c + 1 := nI_clamp (by omega)
  have i1 := pk_in (x := nI (φ z)) (φ z) 512 hl
  have i2 := pk_in (x := nI (T + c + 1)) (T + c + 1) 512 ht
  obtain ⟨eb, hb⟩ := h1.2.2.1 z (Or.inr hz)
  have hne : φ z ≠ T + c + 1 := wl_tr_free h1 (by omega) hf z
  refine And.intro i1 (And.intro i2 (nm_r (e' := upd a2 (T + c + 1) (a2 (φ z))) (by rw [e1, e2]) (And.intro i1 (And.intro i2 (nm_r (e' := upd a1 (T + c + 1) (a1 (φ z))) (by rw [e1, e2]) (And.intro i1 (And.intro i2 (nm_r (e' := upd a3 (T + c + 1) (a3 (φ z))) (by rw [e1, e2]) (And.intro i1 (And.intro i2 (nm_r (e' := upd a4 (T + c + 1) (a4 (φ z))) (by rw [e1, e2]) (And.intro i1 (And.intro i2 (nm_r (e' := upd a5 (T + c + 1) (a5 (φ z))) (by rw [e1, e2]) ⟨5, ?_⟩))))))))))))))
  refine wl_ms62 (B := b z) hb hl (by rw [pk_un hne]; exact eb) (fun s2 hs => ?_) 4 0 _ (by omega) (A := upd a2 (T + c + 1) (a2 (φ z))) (fun i => ?_)
  · have q2 : upd s2 (φ z) (-1) (φ z) = -1 := pk_us
    have q2' : ∀ i, i ≠ φ z → upd s2 (φ z) (-1) i = if b z < i ∧ i ≤ b z + 4 ∧ upd a2 (T + c + 1) (a2 (φ z)) i = nI (φ z) then nI (T + c + 1) else upd a2 (T + c + 1) (a2 (φ z)) i := fun i hi => by
      rw [pk_un hi, hs]
    refine H (fun y => if y = z then T + c + 1 else φ y) _ _ _ _ _ ⟨wl_mv h1 ez hc hz ht hf hβ ?_ ?_ q2 q2', wl_mv_nv h1 h3 hz (by omega) hf ?_ ?_, wl_mv_nv h1 h4 hz (by omega) hf ?_ ?_, wl_mv_nv h1 h5 hz (by omega) hf ?_ ?_⟩ (fun y hy => if_neg hy) (if_pos rfl) (fun i hi hi' => wl_mv_free hl q2' q2 hi hi')
    · rw [pk_un (Ne.symm hne), pk_us]
    · intro i g1 g2
      rw [pk_un g2, pk_un g1]
    · rw [pk_un (Ne.symm hne), pk_us]
    · intro i g1 g2
      rw [pk_un g2, pk_un g1]
    · rw [pk_us]
    · intro i g1 g2
      rw [pk_un g1]
    · rw [pk_un (Ne.symm hne), pk_us]
    · intro i g1 g2
      rw [pk_un g2, pk_un g1]
  · rw [if_neg (by omega)]
theorem wl_fb14 {post J : Int32 → Prop} {s B : Nat} (hs : s < 16) (hB : B < 500) (H1 : (∀ d, d < 4 → s.testBit d = true → a2 (B + d + 1) < 0) → post (nI B)) (H2 : ¬ (∀ d, d < 4 → s.testBit d = true → a2 (B + d + 1) < 0) → J (nI (B + 1))) :
    ∀ m c (x3 : Int32), c + m = 4 → ((x3 = 1 ∧ ∀ d, d < c → s.testBit d = true → a2 (B + d + 1) < 0) ∨ (x3 = 0 ∧ ¬ (∀ d, d < 4 → s.testBit d = true → a2 (B + d + 1) < 0))) → wX_freeBase_14 post J (nI s) (nI B) f1 f2 f3 f4 f5 f6 a1 a2 a3 a4 a5 a6 a7 a8 a9 a10 a11 (m + 1) x3 (nI c) := by
  intro m
  induction m with
  | zero =>
    intro c x3 e hx
    have : c = 4 := by omega
    subst this
    refine pk_le 4 4 (fun _ => ?_) (fun z => absurd z (by omega))
    rcases hx with ⟨ex, hx⟩ | ⟨ex, hx⟩
    · exact br_f (by rw [ex]; decide) (H1 hx)
    · exact br_t ex (nm_r (nI_1 B) (H2 hx))
  | succ m ih =>
    intro c x3 e hx
    refine pk_le 4 c (fun z => absurd z (by omega)) (fun _ => ?_)
    refine br_c (fun g => nm_r (nI_1 c) (ih (c + 1) x3 (by omega) ?_)) (fun g => ?_)
    · have g' := (wl_bit s hs c (by omega)).mp g
      rcases hx with ⟨ex, hx⟩ | hx
      · refine Or.inl ⟨ex, fun d hd hb => ?_⟩
        by_cases ed : d = c
        · rw [ed, g'] at hb
          exact absurd hb (by decide)
        · exact hx d (by omega) hb
      · exact Or.inr hx
    · have g' : s.testBit c = true := by
        cases eb : s.testBit c
        · exact absurd ((wl_bit s hs c (by omega)).mpr eb) g
        · rfl
      rw [nI_add, nI_1]
      refine And.intro (pk_in (B + c + 1) 512 (by omega)) ?_
      rw [nI_clamp (show B + c + 1 < 2 ^ 31 by omega)]
      refine br_c (fun q => nm_r (nI_1 c) (ih (c + 1) x3 (by omega) ?_)) (fun q => nm_r (nI_1 c) (ih (c + 1) 0 (by omega) (Or.inr ⟨rfl, fun z => q (z c (by omega) g')⟩)))
      rcases hx with ⟨ex, hx⟩ | hx
      · refine Or.inl ⟨ex, fun d hd hb => ?_⟩
        by_cases ed : d = c
        · rw [ed]
          exact q
        · exact hx d (by omega) hb
      · exact Or.inr hx
theorem wl_free {post : Int32 → Prop} {s B0 : Nat} (hs : s < 16) (hB : B0 < 500) (h0 : ∀ d, d < 4 → a2 (B0 + d + 1) < 0) (H : ∀ B, B < 500 → (∀ d, d < 4 → s.testBit d = true → a2 (B + d + 1) < 0) → post (nI B)) : wpX_freeBase post (f1, f2, f3, f4, f5, f6, a1, a2, a3, a4, a5, a6, a7, a8, a9, a10, a11) (nI s) := by
  have key : ∀ m B, B + m = B0 → wX_freeBase_2 post (nI s) f1 f2 f3 f4 f5 f6 a1 a2 a3 a4 a5 a6 a7 a8 a9 a10 a11 (m + 1) (nI B) := by
    intro m
    induction m with
    | zero =>
      intro B e
      have : B = B0 := by omega
      subst this
      exact pk_le 500 B (fun z => absurd z (by omega)) (fun _ => ⟨5, wl_fb14 hs hB (H B hB) (fun g => absurd (fun d hd _ => h0 d hd) g) 4 0 1 (by omega) (Or.inl ⟨rfl, fun d hd => absurd hd (by omega)⟩)⟩)
    | succ m ih =>
      intro B e
      exact pk_le 500 B (fun z => absurd z (by omega)) (fun _ => ⟨5, wl_fb14 hs (by omega) (H B (by omega)) (fun g => ih (B + 1) (by omega)) 4 0 1 (by omega) (Or.inl ⟨rfl, fun d hd => absurd hd (by omega)⟩)⟩)
  exact ⟨B0 + 1, key B0 0 (by omega)⟩
end
end
section
/-! moveChildren, addChild -/
section
variable {f1 f2 f3 f4 f5 f6 : Int32} {a1 a2 a3 a4 a5 a6 a7 a8 a9 a10 a11 : Nat → Int32} {φ b : Nat → Nat} {D K N : Nat → Int32}
theorem wl_mc60 {post : St2 → Prop} {x s T c0 : Nat} (hx : wl_live φ x) (hxl : φ x < 512) (hb : b x < 500) (hT : T < 500) (hs : s < 16) (hset : ∀ d, d < 4 → (s.testBit d = true ↔ φ (4 * x + d + 1) ≠ 0)) (hφ : ∀ d, d < 4 → φ (4 * x + d + 1) ≠ 0 → φ (4 * x + d + 1) = b x + d + 1) (hc0 : c0 < 4) (hz0 : φ (4 * x + c0 + 1) = 0)
    (H : ∀ ψ s1 s2 s3 s4 s5, wl_TS ψ (fun y => if y = x then T else b y) (fun y _ => if y = x then T else b y) D K N s1 s2 s3 s4 s5 → (∀ y, ψ y ≠ 0 ↔ φ y ≠ 0) → ψ x = φ x → s2 (T + c0 + 1) = -1 → post (f1, f2, f3, f4, f5, f6, s1, s2, s3, s4, s5, a6, a7, a8, a9, a10, a11)) :
    ∀ m c ψ a1 a2 a3 a4 a5, c + m = 4 → wl_TS ψ b (fun y d => if y = x ∧ d < c then T else b y) D K N a1 a2 a3 a4 a5 → (∀ y, ψ y ≠ 0 ↔ φ y ≠ 0) → ψ x = φ x → (∀ d, c ≤ d → d < 4 → ψ (4 * x + d + 1) = φ (4 * x + d + 1)) → (∀ d, c ≤ d → d < 4 → s.testBit d = true → a2 (T + d + 1) = -1) → a2 (T + c0 + 1) = -1 →
      wX_moveChildren_60 post (nI (φ x)) (nI s) (nI T) (nI (b x)) (m + 1) (nI c) f1 f2 f3 f4 f5 f6 a1 a2 a3 a4 a5 a6 a7 a8 a9 a10 a11 := by
  intro m
  induction m with
  | zero =>
    intro c ψ a1 a2 a3 a4 a5 e h hl hψx hsame hfr hfr0
    have : c = 4 := by omega
    subst this
    refine pk_le 4 4 (fun _ => And.intro (pk_in (φ x) 512 hxl) ?_) (fun z => absurd z (by omega))
    rw [nI_clamp (show φ x < 2 ^ 31 by omega)]
    obtain ⟨h1, h3, h4, h5⟩ := h
    have hx' : wl_live ψ x := by
      rcases hx with hx | hx
      · exact Or.inl hx
      · exact Or.inr ((hl x).mpr hx)
    have r := wl_rebase h1 hx' hT (fun c hc _ => if_pos ⟨rfl, hc⟩) (fun y c hy => if_neg (fun z => hy z.1))
    rw [hψx] at r
    exact nm_e (H ψ _ _ _ _ _ ⟨r, h3, h4, h5⟩ hl hψx hfr0)
  | succ m ih =>
    intro c ψ a1 a2 a3 a4 a5 e h hl hψx hsame hfr hfr0
    have hc : c < 4 := by omega
    refine pk_le 4 c (fun z => absurd z (by omega)) (fun _ => br_c (fun g => ?_) (fun g => ?_))
    · have g' := (wl_bit s hs c hc).mp g
      have hz : ψ (4 * x + c + 1) = 0 := by
        rw [hsame c (by omega) hc]
        exact Classical.byContradiction (fun q => by
          have := (hset c hc).mpr q
          rw [g'] at this
          exact absurd this (by decide))
      obtain ⟨h1, h3, h4, h5⟩ := h
      refine nm_r (nI_1 c) (ih (c + 1) ψ _ _ _ _ _ (by omega) ⟨wl_tr_beta h1 (fun y d hd hy => ?_), h3, h4, h5⟩ hl hψx (fun d hd => hsame d (by omega)) (fun d hd => hfr d (by omega)) hfr0)
      by_cases q : y = x ∧ d < c
      · rw [if_pos q, if_pos ⟨q.1, by omega⟩]
      · rw [if_neg q, if_neg (fun w => ?_)]
        have ed : d = c := by
          have := fun k => q ⟨w.1, k⟩
          omega
        rw [w.1, ed] at hy
        exact hy hz
    · have g' : s.testBit c = true := by
        cases eb : s.testBit c
        · exact absurd ((wl_bit s hs c hc).mpr eb) g
        · rfl
      have hz : φ (4 * x + c + 1) ≠ 0 := (hset c hc).mp g'
      have hzψ : ψ (4 * x + c + 1) ≠ 0 := by rw [hsame c (by omega) hc]; exact hz
      have ez : nI (b x + c + 1) = nI (ψ (4 * x + c + 1)) := by rw [hsame c (by omega) hc, hφ c hc hz]
      rw [show nI (b x) + nI c + 1 = nI (ψ (4 * x + c + 1)) by rw [nI_add, nI_1, ez], show nI T + nI c + 1 = nI (T + c + 1) by rw [nI_add, nI_1]]
      refine wl_move h rfl hc hzψ (by omega) (hfr c (by omega) hc g') (fun d _ => if_neg (fun q => by omega)) (fun ψ' s1 s2 s3 s4 s5 h' k1 k2 k3 => ?_)
      have hcc : c0 ≠ c := fun q => hz (by rw [← q]; exact hz0)
      have hl' : ∀ y, ψ' y ≠ 0 ↔ φ y ≠ 0 := by
        intro y
        by_cases ey : y = 4 * x + c + 1
        · rw [ey, k2]
          exact ⟨fun _ => hz, fun _ => by omega⟩
        · rw [k1 y ey]
          exact hl y
      obtain ⟨h1, h3, h4, h5⟩ := h'
      refine nm_r (nI_1 c) (ih (c + 1) ψ' s1 s2 s3 s4 s5 (by omega) ⟨wl_tr_beta h1 (fun y d hd hy => ?_), h3, h4, h5⟩ hl' (by rw [k1 x (by omega)]; exact hψx) (fun d hd hd' => by rw [k1 _ (by omega)]; exact hsame d (by omega) hd') (fun d hd hd' hb => k3 _ (by omega) (hfr d (by omega) hd' hb)) (k3 _ (by omega) hfr0))
      by_cases q : y = x ∧ d < c + 1
      · rw [if_pos q]
        by_cases q' : y = x ∧ d = c
        · rw [if_pos q']
        · rw [if_neg q', if_pos ⟨q.1, by have := fun k => q' ⟨q.1, k⟩; omega⟩]
      · rw [if_neg q, if_neg (fun w => q ⟨w.1, by omega⟩), if_neg (fun w => q ⟨w.1, by omega⟩)]
theorem wl_mch {post : St2 → Prop} (h : wl_TS φ b (fun y _ => b y) D K N a1 a2 a3 a4 a5) {x c0 : Nat} (hx : wl_live φ x) (hc0 : c0 < 4) (hz0 : φ (4 * x + c0 + 1) = 0) (hroom : ∃ k, k < 125 ∧ ∀ c, c < 4 → a2 (4 * k + c + 1) = -1)
    (H : ∀ T ψ s1 s2 s3 s4 s5, T < 500 → wl_TS ψ (fun y => if y = x then T else b y) (fun y _ => if y = x then T else b y) D K N s1 s2 s3 s4 s5 → (∀ y, ψ y ≠ 0 ↔ φ y ≠ 0) → ψ x = φ x → s2 (T + c0 + 1) = -1 → post (f1, f2, f3, f4, f5, f6, s1, s2, s3, s4, s5, a6, a7, a8, a9, a10, a11)) :
    wpX_moveChildren post (f1, f2, f3, f4, f5, f6, a1, a2, a3, a4, a5, a6, a7, a8, a9, a10, a11) (nI (φ x)) (nI c0) := by
  have hxl := wl_tr_lt h.1 hx
  obtain ⟨eb, hb⟩ := h.1.2.2.1 x hx
  have key : ∀ m c s, c + m = 4 → s < 16 → (∀ d, d < 4 → (s.testBit d = true ↔ d < c ∧ φ (4 * x + d + 1) ≠ 0)) → wX_moveChildren_5 post (nI (φ x)) (nI c0) f1 f2 f3 f4 f5 f6 a1 a2 a3 a4 a5 a6 a7 a8 a9 a10 a11 (m + 1) (nI s) (nI c) := by
    intro m
    induction m with
    | zero =>
      intro c s e hs hset
      have : c = 4 := by omega
      subst this
      refine pk_le 4 4 (fun _ => ?_) (fun z => absurd z (by omega))
      rw [wl_set s hs c0 hc0]
      obtain ⟨k, hk, hkf⟩ := hroom
      refine wl_free (B0 := 4 * k) (wl_set16 s hs c0 hc0) (by omega) (fun d hd => by rw [hkf d hd]; decide) (fun T hT hf => And.intro (pk_in (φ x) 512 hxl) ?_)
      rw [nI_clamp (show φ x < 2 ^ 31 by omega), eb]
      have hf' : ∀ d, d < 4 → (s ||| 2 ^ c0).testBit d = true → a2 (T + d + 1) = -1 := fun d hd hb' => wl_tr_neg h.1 (by omega) (by omega) (hf d hd hb')
      refine nm_e ⟨5, wl_mc60 hx hxl hb hT hs (fun d hd => ?_) (fun d hd hz => (wl_ch1 h.1 (fun _ _ => rfl) hd hz).1) hc0 hz0 (fun ψ s1 s2 s3 s4 s5 => H T ψ s1 s2 s3 s4 s5 hT) 4 0 φ a1 a2 a3 a4 a5 (by omega) ⟨wl_tr_beta h.1 (fun y d _ _ => if_neg (by omega)), h.2⟩ (fun y => Iff.rfl) rfl (fun d _ _ => rfl) (fun d _ hd hb' => hf' d hd ?_) (hf' c0 hc0 ?_)⟩
      · rw [hset d hd]
        exact ⟨fun q => q.2, fun q => ⟨hd, q⟩⟩
      · rw [wl_setb s hs c0 hc0 d hd, hb']
        rfl
      · rw [wl_setb s hs c0 hc0 c0 hc0]
        simp
    | succ m ih =>
      intro c s e hs hset
      have hc : c < 4 := by omega
      refine pk_le 4 c (fun z => absurd z (by omega)) (fun _ => ?_)
      refine wl_child h.1 hx (fun _ _ => rfl) hc (fun g => br_f (nI_pos (by have := wl_tr_lt' h.1 (4 * x + c + 1); omega)) (nm_r (wl_set s hs c hc) (nm_r (nI_1 c) (ih (c + 1) _ (by omega) (wl_set16 s hs c hc) (fun d hd => ?_))))) (fun g => br_t (by decide) (nm_r (nI_1 c) (ih (c + 1) s (by omega) hs (fun d hd => ?_))))
      · rw [wl_setb s hs c hc d hd, Bool.or_eq_true, hset d hd, decide_eq_true_iff]
        constructor
        · rintro (q | q)
          · exact ⟨by omega, q.2⟩
          · rw [q]
            exact ⟨by omega, g⟩
        · rintro ⟨q1, q2⟩
          by_cases ed : d = c
          · exact Or.inr ed
          · exact Or.inl ⟨by omega, q2⟩
      · rw [hset d hd]
        constructor
        · rintro ⟨q1, q2⟩
          exact ⟨by omega, q2⟩
        · rintro ⟨q1, q2⟩
          by_cases ed : d = c
          · rw [ed] at q2
            exact absurd g q2
          · exact ⟨by omega, q2⟩
  exact ⟨5, key 4 0 0 (by omega) (by omega) (fun d _ => by simp)⟩
theorem wl_ac41 {post : Int32 → St2 → Prop} (h : wl_TS φ b (fun y _ => b y) D K N a1 a2 a3 a4 a5) {x c z : Nat} (ez : z = 4 * x + c + 1) (hx : wl_live φ x) (hc : c < 4) (hz : φ z = 0) (hf : a2 (b x + c + 1) = -1) (hD : D z = -1) (hN : N z = 0)
    (H : ∀ ψ b' L s1 s2 s3 s4 s5, wl_TS ψ b' (fun y _ => b' y) D L N s1 s2 s3 s4 s5 → (∀ y, y ≠ z → (ψ y ≠ 0 ↔ φ y ≠ 0)) → ψ z ≠ 0 → (∀ y, y ≠ z → L y = K y) → post (nI (ψ z)) (f1, f2, f3, f4, f5, f6, s1, s2, s3, s4, s5, a6, a7, a8, a9, a10, a11)) :
    wX_addChild_41 post (nI (φ x)) (nI (b x + c + 1)) f1 f2 f3 f4 f5 f6 a1 a2 a3 a4 a5 a6 a7 a8 a9 a10 a11 := by
  obtain ⟨h1, h3, h4, h5⟩ := h
  have hb := (h1.2.2.1 x hx).2
  have hfr : ∀ y, φ y ≠ b x + c + 1 := wl_tr_free h1 (by omega) hf
  have e : (nI (b x + c + 1)).toNatClampNeg = b x + c + 1 := nI_clamp (by omega)
  have i1 := pk_in (x := nI (b x + c + 1)) (b x + c + 1) 512 (by omega)
  have hz0 : z ≠ 0 := by omega
  have q4 : wl_nv (fun y => if y = z then b x + c + 1 else φ y) a4 (fun y => if y = z then a4 (b x + c + 1) else K y) := by
    intro y hy
    by_cases ey : y = z
    · simp only [if_pos ey]
    · simp only [if_neg ey]
      refine h4 y ?_
      rcases hy with hy | hy
      · exact Or.inl hy
      · refine Or.inr ?_
        simpa [ey] using hy
  have hh := H (fun y => if y = z then b x + c + 1 else φ y) _ (fun y => if y = z then a4 (b x + c + 1) else K y) _ _ _ _ _ ⟨wl_ins h1 ez hc hx hz hf, wl_ins_nv h3 (v := -1) hz0 hfr hD.symm, q4, wl_ins_nv h5 (v := 0) hz0 hfr hN.symm⟩ (fun y hy => by simp only [if_neg hy]) (by simp) (fun y hy => if_neg hy)
  rw [show (if z = z then b x + c + 1 else φ z) = b x + c + 1 from if_pos rfl] at hh
  exact And.intro i1 (nm_r (by rw [e]) (And.intro i1 (nm_r (by rw [e]) (And.intro i1 (nm_r (by rw [e]) (And.intro i1 (nm_r (by rw [e]) hh)))))))
theorem wl_add {post : Int32 → St2 → Prop} (h : wl_TS φ b (fun y _ => b y) D K N a1 a2 a3 a4 a5) {x c z : Nat} (ez : z = 4 * x + c + 1) (hx : wl_live φ x) (hc : c < 4) (hz : φ z = 0) (hD : D z = -1) (hN : N z = 0) (hroom : ∃ k, k < 125 ∧ ∀ c, c < 4 → a2 (4 * k + c + 1) = -1)
    (H : ∀ ψ b' L s1 s2 s3 s4 s5, wl_TS ψ b' (fun y _ => b' y) D L N s1 s2 s3 s4 s5 → (∀ y, y ≠ z → (ψ y ≠ 0 ↔ φ y ≠ 0)) → ψ z ≠ 0 → (∀ y, y ≠ z → L y = K y) → post (nI (ψ z)) (f1, f2, f3, f4, f5, f6, s1, s2, s3, s4, s5, a6, a7, a8, a9, a10, a11)) :
    wpX_addChild post (f1, f2, f3, f4, f5, f6, a1, a2, a3, a4, a5, a6, a7, a8, a9, a10, a11) (nI (φ x)) (nI c) := by
  have hxl := wl_tr_lt h.1 hx
  obtain ⟨eb, hb⟩ := h.1.2.2.1 x hx
  refine And.intro (pk_in (φ x) 512 hxl) (nm_r (e' := nI (b x + c + 1)) (by rw [nI_clamp (by omega), eb, nI_add, nI_1]) (And.intro (pk_in (b x + c + 1) 512 (by omega)) ?_))
  rw [nI_clamp (show b x + c + 1 < 2 ^ 31 by omega)]
  refine br_c (fun g => ?_) (fun g => pk_eq (b x + c + 1) 0 (fun q => absurd q (by omega)) (fun _ => ?_))
  · refine wl_mch h hx hc (by rw [← ez]; exact hz) hroom (fun T ψ s1 s2 s3 s4 s5 hT h' hl hψx hf => And.intro (pk_in (φ x) 512 hxl) ?_)
    have hx' : wl_live ψ x := by
      rcases hx with hx | hx
      · exact Or.inl hx
      · exact Or.inr ((hl x).mpr hx)
    have e1 := (h'.1.2.2.1 x hx').1
    dsimp only at e1
    rw [hψx, if_pos rfl] at e1
    have hz' : ψ z = 0 := Classical.byContradiction (fun q => (hl z).mp q hz)
    have a41 := wl_ac41 (post := post) (f1 := f1) (f2 := f2) (f3 := f3) (f4 := f4) (f5 := f5) (f6 := f6) (a6 := a6) (a7 := a7) (a8 := a8) (a9 := a9) (a10 := a10) (a11 := a11) h' ez hx' hc hz' (by rw [if_pos rfl]; exact hf) hD hN (fun ψ2 b2 L t1 t2 t3 t4 t5 g1 g2 g3 g4 => H ψ2 b2 L t1 t2 t3 t4 t5 g1 (fun y hy => (g2 y hy).trans (hl y)) g3 g4)
    rw [hψx, if_pos rfl] at a41
    exact nm_r (e' := nI (T + c + 1)) (by rw [nI_clamp (by omega), e1, nI_add, nI_1]) a41
  · refine wl_ac41 h ez hx hc hz ?_ hD hN H
    rcases h.1.2.2.2.2.1 (b x + c + 1) (by omega) (by omega) with q | ⟨y, q⟩
    · exact q
    · obtain ⟨k, hk, e⟩ := wl_tr_use h.1 (y := y) (by omega)
      rw [q] at e
      rw [e] at g
      exact absurd (nI_pos' (by omega)) g
end
end
section
/-! grow, learn -/
def wl_DI (φ b : Nat → Nat) (D K a1 a2 a3 a4 a5 : Nat → Int32) : Prop :=
  wl_RD φ b D K a1 a2 a3 a4 ∧ wl_nv φ a5 (fun y => nI (wl_N D y)) ∧ (∀ y, φ y ≠ 0 → 0 < wl_N D y) ∧ wl_N D 0 ≤ 16
theorem wl_DI_un {φ b : Nat → Nat} {D K a1 a2 a3 a4 : Nat → Int32} (h : wl_RD φ b D K a1 a2 a3 a4) {y : Nat} (hy : φ y = 0) : D y = -1 := by
  rcases h.2.2.2 y with e | e
  · exact e
  · exact absurd hy e.2.2.1
theorem wl_RD_N0 {φ b : Nat → Nat} {D K a1 a2 a3 a4 : Nat → Int32} (h : wl_RD φ b D K a1 a2 a3 a4) {y : Nat} (hy : ¬ wl_live φ y) : wl_N D y = 0 := by
  rcases Nat.eq_zero_or_pos (wl_N D y) with e | e
  · exact e
  · obtain ⟨w, hw, hD, hi⟩ := wl_N_ex e
    refine absurd (wl_tr_ip h.1 (Or.inr (fun q => ?_)) hi) hy
    rw [wl_DI_un h q] at hD
    exact absurd hD (by decide)
section
variable {f1 f2 f3 f4 f5 f6 : Int32} {a1 a2 a3 a4 a5 a6 a7 a8 a9 a10 a11 : Nat → Int32} {φ b : Nat → Nat} {D K : Nat → Int32}
theorem wl_grow {post : Int32 → St2 → Prop} (h : wl_DI φ b D K a1 a2 a3 a4 a5) {l : Nat → Nat} {n : Nat} (hn1 : 1 ≤ n) (hn : n ≤ 4) (hl : ∀ i, i < n → l i < 4) (h6 : ∀ i, i < n → a6 i = nI (l i))
    (H : ∀ ψ b' L s1 s2 s3 s4 s5, wl_RD ψ b' D L s1 s2 s3 s4 → wl_nv ψ s5 (fun y => nI (wl_N D y + if wl_ip y (wl_pc l n) = true then 1 else 0)) → ψ (wl_pc l n) ≠ 0 → (∀ y, ψ y ≠ 0 → wl_ip y (wl_pc l n) = true ∨ 0 < wl_N D y) → post (nI (ψ (wl_pc l n))) (f1, nI n, f3, f4, f5, f6, s1, s2, s3, s4, s5, a6, a7, a8, a9, a10, a11)) :
    wpX_grow post (f1, nI n, f3, f4, f5, f6, a1, a2, a3, a4, a5, a6, a7, a8, a9, a10, a11) := by
  have h16 := h.2.2.2
  have key : ∀ m i ψ b' L a1 a2 a3 a4 a5, i + m = n → wl_RD ψ b' D L a1 a2 a3 a4 → wl_nv ψ a5 (fun y => nI (wl_N D y + if wl_ip y (wl_pc l i) = true then 1 else 0)) → wl_live ψ (wl_pc l i) → (∀ y, ψ y ≠ 0 → wl_ip y (wl_pc l n) = true ∨ 0 < wl_N D y) → wX_grow_14 post (m + 1) (nI (ψ (wl_pc l i))) (nI i) f1 (nI n) f3 f4 f5 f6 a1 a2 a3 a4 a5 a6 a7 a8 a9 a10 a11 := by
    intro m
    induction m with
    | zero =>
      intro i ψ b' L a1 a2 a3 a4 a5 e hR hV hv hcov
      have : i = n := by omega
      subst this
      refine pk_le i i (fun _ => H ψ b' L a1 a2 a3 a4 a5 hR hV ?_ hcov) (fun z => absurd z (by omega))
      rcases hv with hv | hv
      · have := wl_pc_lo l i
        have l1 : 1 ≤ wl_lo i := by
          rw [show i = (i - 1) + 1 by omega]
          show 1 ≤ 4 * wl_lo (i - 1) + 1
          omega
        omega
      · exact hv
    | succ m ih =>
      intro i ψ b' L a1 a2 a3 a4 a5 e hR hV hv hcov
      have hli : ∀ j, j < i + 1 → l j < 4 := fun j hj => hl j (by omega)
      have g50 : ∀ ψ b' L a1 a2 a3 a4 a5, wl_RD ψ b' D L a1 a2 a3 a4 → wl_nv ψ a5 (fun y => nI (wl_N D y + if wl_ip y (wl_pc l i) = true then 1 else 0)) → ψ (wl_pc l (i + 1)) ≠ 0 → (∀ y, ψ y ≠ 0 → wl_ip y (wl_pc l n) = true ∨ 0 < wl_N D y) → wX_grow_50 post (wX_grow_14 post (m + 1)) (nI i) (nI (ψ (wl_pc l (i + 1)))) f1 (nI n) f3 f4 f5 f6 a1 a2 a3 a4 a5 a6 a7 a8 a9 a10 a11 := by
        intro ψ b' L a1 a2 a3 a4 a5 hR hV hz hcov
        have hlt := wl_tr_lt' hR.1 (wl_pc l (i + 1))
        have e1 : (nI (ψ (wl_pc l (i + 1)))).toNatClampNeg = ψ (wl_pc l (i + 1)) := nI_clamp (by omega)
        refine And.intro (pk_in _ 512 hlt) (And.intro (pk_in _ 512 hlt) (nm_r (e' := upd a5 (ψ (wl_pc l (i + 1))) (a5 (ψ (wl_pc l (i + 1))) + 1)) (by rw [e1]) (nm_r (nI_1 i) (ih (i + 1) ψ b' L a1 a2 a3 a4 _ (by omega) hR (wl_nv_up hR.1 hV (Or.inr hz) ?_ (fun y hy => ?_)) (Or.inr hz) hcov))))
        · rw [hV _ (Or.inr hz)]
          dsimp only
          rw [wl_ip_new hli (by omega), wl_ip_self]
          exact nI_1 _
        · rw [wl_ip_succ hli (by omega) hy]
      refine pk_le n i (fun z => absurd z (by omega)) (fun _ => And.intro (pk_in i 5 (by omega)) ?_)
      rw [nI_clamp (show i < 2 ^ 31 by omega), h6 i (by omega)]
      refine wl_child hR.1 hv (fun _ _ => rfl) (hl i (by omega)) (fun g => br_t (nI_pos' (by have := wl_tr_lt' hR.1 (4 * wl_pc l i + l i + 1); omega)) (g50 ψ b' L a1 a2 a3 a4 a5 hR hV g hcov)) (fun g => br_f (by decide) (And.intro (pk_in i 5 (by omega)) ?_))
      have hnl : ¬ wl_live ψ (wl_pc l (i + 1)) := by
        rintro (q | q)
        · exact absurd q (by show 4 * wl_pc l i + l i + 1 ≠ 0; omega)
        · exact q g
      have hroom := wl_room hR.1 (wl_pc l n :: wl_W D) (by rw [List.length_cons, ← wl_N_0]; omega) (fun z hz => by
        rcases hcov z hz with q | q
        · exact ⟨wl_pc l n, List.mem_cons_self, q⟩
        · obtain ⟨w, hw, hD, hi⟩ := wl_N_ex q
          exact ⟨w, List.mem_cons_of_mem _ (wl_W_mem.mpr ⟨hw, hD⟩), hi⟩)
      refine wl_add (z := wl_pc l (i + 1)) ⟨hR.1, hR.2.1, hR.2.2.1, hV⟩ rfl hv (hl i (by omega)) g (wl_DI_un hR g) ?_ hroom (fun ψ2 b2 L2 s1 s2 s3 s4 s5 hT k1 k2 k3 => ?_)
      · rw [wl_ip_new hli (by omega), wl_RD_N0 hR hnl]
        rfl
      · obtain ⟨t1, t3, t4, t5⟩ := hT
        refine g50 ψ2 b2 L2 s1 s2 s3 s4 s5 ⟨t1, t3, t4, fun y => ?_⟩ t5 k2 (fun y hy => ?_)
        · rcases hR.2.2.2 y with q | ⟨q1, q2, q3, q4⟩
          · exact Or.inl q
          · have hy : y ≠ wl_pc l (i + 1) := fun ey => q3 (by rw [ey]; exact g)
            exact Or.inr ⟨q1, q2, (k1 y hy).mpr q3, by rw [k3 y hy]; exact q4⟩
        · by_cases ey : y = wl_pc l (i + 1)
          · rw [ey]
            exact Or.inl ((wl_ip_pc hl hn).mpr ⟨i + 1, by omega, rfl⟩)
          · exact hcov y ((k1 y ey).mp hy)
  obtain ⟨hR, hV, hpos, _⟩ := h
  have k0 := key n 0 φ b K a1 a2 a3 a4 (upd a5 (φ 0) (a5 (φ 0) + 1)) (by omega) hR (wl_nv_up hR.1 hV (Or.inl rfl) (by
    rw [hV 0 (Or.inl rfl), show wl_pc l 0 = 0 from rfl, wl_ip_self]
    exact nI_1 _) (fun y hy => by
    rw [show wl_pc l 0 = 0 from rfl, if_neg (fun q => ?_)]
    · rfl
    · rcases wl_ip_iff.mp q with e | e | e | e | e <;> exact hy e)) (Or.inl rfl) (fun y hy => Or.inr (hpos y hy))
  rw [show wl_pc l 0 = 0 from rfl, hR.1.1] at k0
  exact nm_e ⟨n + 1, k0⟩
theorem wl_l76 {post : Int32 → St2 → Prop} {w c k : Nat} (hR : wl_RD φ b D K a1 a2 a3 a4) (hw : w < 341) (hz : φ w ≠ 0) (hc : c ≤ 15) (hk : k = wl_len w % 3) (hV : wl_nv φ a5 (fun y => nI (wl_N (fun y => if y = w then nI c else D y) y))) (hpos : ∀ y, φ y ≠ 0 → 0 < wl_N (fun y => if y = w then nI c else D y) y) (h16 : wl_N (fun y => if y = w then nI c else D y) 0 ≤ 16)
    (H : ∀ r ψ b' E L s1 s2 s3 s4 s5 g2 g4, wl_DI ψ b' E L s1 s2 s3 s4 s5 → (∀ y, y ≠ w → E y = D y) → g4 = 0 → post r (f1, g2, f3, g4, f5, f6, s1, s2, s3, s4, s5, a6, a7, a8, a9, a10, a11)) :
    wX_learn_76 post (nI c) (nI k) (nI (φ w)) f1 f2 f3 f4 f5 f6 a1 a2 a3 a4 a5 a6 a7 a8 a9 a10 a11 := by
  have hlt := wl_tr_lt' hR.1 w
  have e1 : (nI (φ w)).toNatClampNeg = φ w := nI_clamp (by omega)
  obtain ⟨t1, t3, t4, tD⟩ := hR
  refine And.intro (pk_in _ 512 hlt) (nm_r (e' := upd a3 (φ w) (nI c)) (by rw [e1]) (And.intro (pk_in _ 512 hlt) (nm_r (e' := upd a4 (φ w) (nI k)) (by rw [e1]) (H _ φ b (fun y => if y = w then nI c else D y) (fun y => if y = w then nI k else K y) _ _ _ _ _ _ _ ⟨⟨t1, wl_nv_up t1 t3 (Or.inr hz) (by simp) (fun y hy => if_neg hy), wl_nv_up t1 t4 (Or.inr hz) (by simp) (fun y hy => if_neg hy), fun y => ?_⟩, hV, hpos, h16⟩ (fun y hy => if_neg hy) rfl))))
  by_cases ey : y = w
  · refine Or.inr ⟨⟨c, hc, if_pos ey⟩, by omega, by rw [ey]; exact hz, ?_⟩
    simp only [if_pos ey]
    rw [ey, hk]
  · simp only [if_neg ey]
    exact tD y
theorem wl_learn {post : Int32 → St2 → Prop} (h : wl_DI φ b D K a1 a2 a3 a4 a5) {l : Nat → Nat} {n c : Nat} (hn1 : 1 ≤ n) (hn : n ≤ 4) (hl : ∀ i, i < n → l i < 4) (h6 : ∀ i, i < n → a6 i = nI (l i)) (hc : c ≤ 15)
    (H : ∀ r ψ b' E L s1 s2 s3 s4 s5 g2 g4, wl_DI ψ b' E L s1 s2 s3 s4 s5 → (∀ y, y ≠ wl_pc l n → E y = D y) → (g4 = 0 ∨ (g4 = f4 ∧ E = D)) → post r (f1, g2, f3, g4, f5, f6, s1, s2, s3, s4, s5, a6, a7, a8, a9, a10, a11)) :
    wpX_learn post (f1, nI n, f3, f4, f5, f6, a1, a2, a3, a4, a5, a6, a7, a8, a9, a10, a11) (nI c) (nI (n % 3)) := by
  have hw := wl_pc_341 hl hn
  have hlen := wl_pc_len hl (show n ≤ 5 by omega)
  have e0 : a5 0 = nI (wl_N D 0) := by
    have := h.2.1 0 (Or.inl rfl)
    rw [h.1.1.1] at this
    exact this
  have L50 : ∀ x3 : Int32, D (wl_pc l n) = -1 → wX_learn_50 post (nI c) (nI (n % 3)) x3 f1 (nI n) f3 f4 f5 f6 a1 a2 a3 a4 a5 a6 a7 a8 a9 a10 a11 := by
    intro x3 hD
    have hnD : ¬ (0 : Int32) ≤ D (wl_pc l n) := by
      rw [hD]
      decide
    have h16 := h.2.2.2
    refine br_t rfl (pk_lt (wl_N D 0) 16 (fun hN => ?_) (fun _ => H (-1) φ b D K a1 a2 a3 a4 a5 (nI n) f4 h (fun _ _ => rfl) (Or.inr ⟨rfl, rfl⟩)) e0)
    refine wl_grow h hn1 hn hl h6 (fun ψ b' L s1 s2 s3 s4 s5 hR hV hz hcov => ?_)
    have hadd : ∀ x, wl_N (fun y => if y = wl_pc l n then nI c else D y) x = wl_N D x + (if wl_ip x (wl_pc l n) = true then 1 else 0) := fun x => wl_N_add hw hnD (by simp only [if_pos]; exact nI_pos' (by omega)) (fun v hv => if_neg hv) x
    refine wl_l76 hR hw hz hc (by rw [hlen]) (fun y hy => ?_) (fun y hy => ?_) ?_ (fun r ψ' b2 E L2 t1 t2 t3 t4 t5 g2 g4 q1 q2 q3 => H r ψ' b2 E L2 t1 t2 t3 t4 t5 g2 g4 q1 q2 (Or.inl q3))
    · dsimp only
      rw [hadd y]
      exact hV y hy
    · rw [hadd y]
      rcases hcov y hy with q | q
      · rw [if_pos q]
        omega
      · omega
    · rw [hadd 0, if_pos (wl_ip_0 hw)]
      omega
  refine pk_eq n 0 (fun q => absurd q (by omega)) (fun _ => br_f (nI_pos (by omega)) (pk_lt 99 c (fun q => absurd q (by omega)) (fun _ => br_f (nI_pos (by omega)) (pk_le (n % 3) 2 (fun _ => ?_) (fun q => absurd q (by omega))))))
  refine wl_find h.1.1 (by omega) hl h6 (fun hv => ?_) (fun hv => br_t (by decide) (L50 _ (wl_DI_un h.1 (Classical.byContradiction (fun q => hv (Or.inr q))))))
  have hlt := wl_tr_lt h.1.1 hv
  refine br_f (nI_pos (by omega)) (And.intro (pk_in _ 512 hlt) ?_)
  rw [nI_clamp (show φ (wl_pc l n) < 2 ^ 31 by omega), h.1.2.1 _ hv]
  rcases h.1.2.2.2 (wl_pc l n) with eD | ⟨⟨c', hc', eD⟩, _, hz, _⟩
  · exact br_t (by rw [eD]; decide) (L50 _ eD)
  · refine br_f (by rw [eD]; exact nI_pos (by omega)) (br_f (by decide) ?_)
    have hkeep : ∀ x, wl_N (fun y => if y = wl_pc l n then nI c else D y) x = wl_N D x := fun x => wl_N_keep (fun w => by
      by_cases ew : w = wl_pc l n
      · simp only [if_pos ew]
        rw [ew, eD]
        exact ⟨fun _ => nI_pos' (by omega), fun _ => nI_pos' (by omega)⟩
      · simp only [if_neg ew]) x
    refine wl_l76 h.1 hw hz hc (by rw [hlen]) (fun y hy => ?_) (fun y hy => ?_) ?_ (fun r ψ' b2 E L2 t1 t2 t3 t4 t5 g2 g4 q1 q2 q3 => H r ψ' b2 E L2 t1 t2 t3 t4 t5 g2 g4 q1 q2 (Or.inl q3))
    · dsimp only
      rw [hkeep y]
      exact h.2.1 y hy
    · rw [hkeep y]
      exact h.2.2.1 y hy
    · rw [hkeep 0]
      exact h.2.2.2
end
end
section
/-! prune, forget -/
theorem wl_cn_mono' {p q : Nat → Bool} : ∀ n, (∀ w, w < n → p w = true → q w = true) → wl_cn p n ≤ wl_cn q n
  | 0, _ => Nat.le_refl _
  | n + 1, hn => by
    have ih := wl_cn_mono' n (fun w hw => hn w (by omega))
    have hq := hn n (by omega)
    unfold wl_cn at ih ⊢
    cases e : p n
    · rw [wl_ls_f e]
      cases e' : q n
      · rw [wl_ls_f e']
        exact ih
      · rw [wl_ls_t e', List.length_cons]
        omega
    · rw [wl_ls_t e, wl_ls_t (hq e), List.length_cons, List.length_cons]
      omega
theorem wl_N_up {D : Nat → Int32} {x c : Nat} (hc : c < 4) : wl_N D (4 * x + c + 1) ≤ wl_N D x := by
  refine wl_cn_mono' 341 (fun w hw h => ?_)
  rw [Bool.and_eq_true] at h ⊢
  exact ⟨h.1, wl_ip_up hc hw h.2⟩
theorem wl_N_le (D : Nat → Int32) (x : Nat) : wl_N D x ≤ 341 := by
  have : ∀ (p : Nat → Bool) n, wl_cn p n ≤ n := by
    intro p n
    induction n with
    | zero => exact Nat.le_refl _
    | succ n ih =>
      unfold wl_cn at ih ⊢
      cases e : p n
      · rw [wl_ls_f e]
        omega
      · rw [wl_ls_t e, List.length_cons]
        omega
  exact this _ 341
/-- the arrays while states are freed: R: those freed already, M: the counts of the others -/
def wl_PI (φ : Nat → Nat) (a1 a2 a3 : Nat → Int32) (R : Nat → Prop) (M : Nat → Nat) (s1 s2 s3 s5 : Nat → Int32) : Prop :=
  (∀ k, (∀ y, R y → φ y ≠ k) → s1 k = a1 k ∧ s2 k = a2 k ∧ s3 k = a3 k) ∧ (∀ y, R y → s2 (φ y) = -1) ∧ (∀ y, wl_live φ y → ¬ R y → s5 (φ y) = nI (M y))
theorem wl_PI_congr {φ : Nat → Nat} {a1 a2 a3 s1 s2 s3 s5 : Nat → Int32} {R R' : Nat → Prop} {M M' : Nat → Nat} (h : wl_PI φ a1 a2 a3 R M s1 s2 s3 s5) (hR : ∀ y, R y ↔ R' y) (hM : ∀ y, wl_live φ y → M y = M' y) : wl_PI φ a1 a2 a3 R' M' s1 s2 s3 s5 :=
  ⟨fun k hk => h.1 k (fun y hy => hk y ((hR y).mp hy)), fun y hy => h.2.1 y ((hR y).mpr hy), fun y hy hn => by rw [← hM y hy]; exact h.2.2 y hy (fun q => hn ((hR y).mp q))⟩
theorem wl_PI_rel {φ b : Nat → Nat} {β : Nat → Nat → Nat} {a1 a2 a3 s1 s2 s3 s5 : Nat → Int32} {R : Nat → Prop} {M : Nat → Nat} (t : wl_tr φ b β a1 a2) (h : wl_PI φ a1 a2 a3 R M s1 s2 s3 s5) {x : Nat} (hx : wl_live φ x) : wl_PI φ a1 a2 a3 (fun y => R y ∨ y = x) M (upd s1 (φ x) 0) (upd s2 (φ x) (-1)) (upd s3 (φ x) (-1)) (upd s5 (φ x) 0) := by
  refine ⟨fun k hk => ?_, fun y hy => ?_, fun y hy hn => ?_⟩
  · have hkx : k ≠ φ x := fun e => hk x (Or.inr rfl) e.symm
    rw [pk_un hkx, pk_un hkx, pk_un hkx]
    exact h.1 k (fun y hy => hk y (Or.inl hy))
  · by_cases e : φ y = φ x
    · rw [e, pk_us]
    · rw [pk_un e]
      rcases hy with hy | hy
      · exact h.2.1 y hy
      · exact absurd (by rw [hy]) e
  · rw [pk_un (fun e => hn (Or.inr (wl_tr_inj t hy hx e)))]
    exact h.2.2 y hy (fun q => hn (Or.inl q))
theorem wl_PI_dec {φ b : Nat → Nat} {β : Nat → Nat → Nat} {a1 a2 a3 s1 s2 s3 s5 : Nat → Int32} {R : Nat → Prop} {M M' : Nat → Nat} (t : wl_tr φ b β a1 a2) (h : wl_PI φ a1 a2 a3 R M s1 s2 s3 s5) {x : Nat} (hx : wl_live φ x) (hR : ¬ R x) (hM : M x = M' x + 1) (hM' : ∀ y, y ≠ x → M y = M' y) : wl_PI φ a1 a2 a3 R M' s1 s2 s3 (upd s5 (φ x) (s5 (φ x) - 1)) := by
  refine ⟨h.1, h.2.1, fun y hy hn => ?_⟩
  by_cases e : y = x
  · rw [e, pk_us, h.2.2 x hx hR, hM, nI_pred]
  · rw [pk_un (fun q => e (wl_tr_inj t hy hx q)), ← hM' y e]
    exact h.2.2 y hy hn
/-- all states of the word that no other word needs are freed: the dictionary without the word -/
theorem wl_pruned {φ b : Nat → Nat} {D K a1 a2 a3 a4 a5 s1 s2 s3 s5 : Nat → Int32} {w : Nat} (h : wl_DI φ b D K a1 a2 a3 a4 a5) (hw : w < 341) (hD : 0 ≤ D w) (hz : φ w ≠ 0)
    (hP : wl_PI φ a1 a2 (upd a3 (φ w) (-1)) (fun y => y ≠ 0 ∧ wl_ip y w = true ∧ wl_N D y = 1) (fun y => wl_N D y - if wl_ip y w = true then 1 else 0) s1 s2 s3 s5) :
    wl_DI (fun y => if y ≠ 0 ∧ wl_ip y w = true ∧ wl_N D y = 1 then 0 else φ y) b (fun y => if y = w then -1 else D y) K s1 s2 s3 a4 s5 := by
  obtain ⟨⟨t, t3, t4, tD⟩, t5, hpos, h16⟩ := h
  obtain ⟨p1, p2, p3⟩ := hP
  have hN : ∀ y, wl_N D y = wl_N (fun y => if y = w then -1 else D y) y + (if wl_ip y w = true then 1 else 0) := fun y => wl_N_add hw (by simp only [if_pos]; decide) hD (fun v hv => (if_neg hv).symm) y
  have hRl : ∀ y, (y ≠ 0 ∧ wl_ip y w = true ∧ wl_N D y = 1) → wl_live φ y := fun y hy => wl_tr_ip t (Or.inr hz) hy.2.1
  have hR0 : ∀ y, (y ≠ 0 ∧ wl_ip y w = true ∧ wl_N D y = 1) → φ y ≠ 0 := fun y hy => by
    rcases hRl y hy with q | q
    · exact absurd q hy.1
    · exact q
  have hlive : ∀ y, wl_live (fun y => if y ≠ 0 ∧ wl_ip y w = true ∧ wl_N D y = 1 then 0 else φ y) y → wl_live φ y ∧ ¬ (y ≠ 0 ∧ wl_ip y w = true ∧ wl_N D y = 1) := by
    intro y hy
    by_cases q : y ≠ 0 ∧ wl_ip y w = true ∧ wl_N D y = 1
    · rcases hy with hy | hy
      · exact absurd hy q.1
      · simp only [if_pos q] at hy
        exact absurd rfl hy
    · rcases hy with hy | hy
      · exact ⟨Or.inl hy, q⟩
      · simp only [if_neg q] at hy
        exact ⟨Or.inr hy, q⟩
  have hsame : ∀ y, wl_live φ y → ¬ (y ≠ 0 ∧ wl_ip y w = true ∧ wl_N D y = 1) → s1 (φ y) = a1 (φ y) ∧ s2 (φ y) = a2 (φ y) ∧ s3 (φ y) = upd a3 (φ w) (-1) (φ y) := by
    intro y hy q
    refine p1 (φ y) (fun v hv e => ?_)
    have := wl_tr_inj t (hRl v hv) hy e
    rw [this] at hv
    exact q hv
  have hchild : ∀ x c, c < 4 → φ (4 * x + c + 1) ≠ 0 → ¬ (4 * x + c + 1 ≠ 0 ∧ wl_ip (4 * x + c + 1) w = true ∧ wl_N D (4 * x + c + 1) = 1) → ¬ (x ≠ 0 ∧ wl_ip x w = true ∧ wl_N D x = 1) := by
    intro x c hc hy q r
    have k1 := hpos _ hy
    have k2 := wl_N_up (D := D) (x := x) hc
    obtain ⟨v, hv, kD, hi⟩ := wl_N_ex k1
    have := wl_N_one r.2.2 hw hD r.2.1 hv kD (wl_ip_up hc hv hi)
    subst this
    exact q ⟨by omega, hi, by omega⟩
  have t3' : wl_nv φ (upd a3 (φ w) (-1)) (fun y => if y = w then -1 else D y) := wl_nv_up t t3 (Or.inr hz) (by simp) (fun y hy => if_neg hy)
  obtain ⟨k1, k2, k3, k4, k5, k6⟩ := t
  refine ⟨⟨⟨by simp [k1], ?_, ?_, ?_, ?_, ?_⟩, ?_, ?_, ?_⟩, ?_, ?_, ?_⟩
  · rw [(p1 0 (fun y hy => hR0 y hy)).2.1]
    exact k2
  · intro x hx
    obtain ⟨hx1, hx2⟩ := hlive x hx
    simp only [if_neg hx2]
    rw [(hsame x hx1 hx2).1]
    exact k3 x hx1
  · intro x c hc hy
    by_cases q : 4 * x + c + 1 ≠ 0 ∧ wl_ip (4 * x + c + 1) w = true ∧ wl_N D (4 * x + c + 1) = 1
    · simp only [if_pos q] at hy
      exact absurd rfl hy
    · simp only [if_neg q] at hy ⊢
      obtain ⟨g1, g2, g3, g4⟩ := k4 x c hc hy
      have hx2 := hchild x c hc hy q
      simp only [if_neg hx2]
      refine ⟨?_, g2, g3, by rw [(hsame _ (Or.inr hy) q).2.1]; exact g4⟩
      rcases g1 with g1 | g1
      · exact Or.inl g1
      · refine Or.inr ?_
        simp only [if_neg hx2]
        exact g1
  · intro i hi hi'
    by_cases q : ∃ y, (y ≠ 0 ∧ wl_ip y w = true ∧ wl_N D y = 1) ∧ φ y = i
    · obtain ⟨y, hy, e⟩ := q
      left
      rw [← e]
      exact p2 y hy
    · have q' : ∀ y, (y ≠ 0 ∧ wl_ip y w = true ∧ wl_N D y = 1) → φ y ≠ i := fun y hy e => q ⟨y, hy, e⟩
      rw [(p1 i q').2.1]
      rcases k5 i hi hi' with g | ⟨z, g⟩
      · exact Or.inl g
      · right
        refine ⟨z, ?_⟩
        have hz' : ¬ (z ≠ 0 ∧ wl_ip z w = true ∧ wl_N D z = 1) := fun r => q' z r g
        simp only [if_neg hz']
        exact g
  · intro y z hy e
    by_cases q : y ≠ 0 ∧ wl_ip y w = true ∧ wl_N D y = 1
    · simp only [if_pos q] at hy
      exact absurd rfl hy
    · simp only [if_neg q] at hy e
      by_cases q' : z ≠ 0 ∧ wl_ip z w = true ∧ wl_N D z = 1
      · simp only [if_pos q'] at e
        exact absurd e hy
      · simp only [if_neg q'] at e
        exact k6 y z hy e
  · intro x hx
    obtain ⟨hx1, hx2⟩ := hlive x hx
    simp only [if_neg hx2]
    rw [(hsame x hx1 hx2).2.2]
    exact t3' x hx1
  · intro x hx
    obtain ⟨hx1, hx2⟩ := hlive x hx
    simp only [if_neg hx2]
    exact t4 x hx1
  · intro y
    by_cases ey : y = w
    · exact Or.inl (if_pos ey)
    · simp only [if_neg ey]
      rcases tD y with q | ⟨⟨c, q1, q1'⟩, q2, q3, q4⟩
      · exact Or.inl q
      · refine Or.inr ⟨⟨c, q1, q1'⟩, q2, ?_, q4⟩
        have hy : ¬ (y ≠ 0 ∧ wl_ip y w = true ∧ wl_N D y = 1) := by
          intro r
          have := wl_N_one r.2.2 hw hD r.2.1 q2 (by rw [q1']; exact nI_pos' (by omega)) (wl_ip_self y)
          exact ey this.symm
        simp only [if_neg hy]
        exact q3
  · intro x hx
    obtain ⟨hx1, hx2⟩ := hlive x hx
    simp only [if_neg hx2]
    rw [p3 x hx1 hx2]
    dsimp only
    rw [hN x, Nat.add_sub_cancel]
  · intro y hy
    by_cases q : y ≠ 0 ∧ wl_ip y w = true ∧ wl_N D y = 1
    · simp only [if_pos q] at hy
      exact absurd rfl hy
    · simp only [if_neg q] at hy
      have e := hN y
      have hp := hpos y hy
      by_cases qi : wl_ip y w = true
      · rw [if_pos qi] at e
        have hy0 : y ≠ 0 := fun e0 => hy (by rw [e0]; exact k1)
        have : wl_N D y ≠ 1 := fun e1 => q ⟨hy0, qi, e1⟩
        omega
      · rw [if_neg qi] at e
        omega
  · have e := hN 0
    omega
section
variable {f1 f2 f3 f4 f5 f6 : Int32} {a1 a2 a3 a4 a5 a6 a7 a8 a9 a10 a11 : Nat → Int32} {φ b : Nat → Nat} {D K : Nat → Int32}
theorem wl_prune {post : St2 → Prop} (h : wl_DI φ b D K a1 a2 a3 a4 a5) {l : Nat → Nat} {n : Nat} (hn1 : 1 ≤ n) (hn : n ≤ 4) (hl : ∀ i, i < n → l i < 4) (h6 : ∀ i, i < n → a6 i = nI (l i)) (hD : 0 ≤ D (wl_pc l n)) (hz : φ (wl_pc l n) ≠ 0)
    (H : ∀ ψ E s1 s2 s3 s5, wl_DI ψ b E K s1 s2 s3 a4 s5 → post (f1, nI n, f3, f4, f5, f6, s1, s2, s3, a4, s5, a6, a7, a8, a9, a10, a11)) :
    wpX_prune post (f1, nI n, f3, f4, f5, f6, a1, a2, upd a3 (φ (wl_pc l n)) (-1), a4, a5, a6, a7, a8, a9, a10, a11) := by
  have hw := wl_pc_341 hl hn
  have t := h.1.1
  have t5 := h.2.1
  have hlj : ∀ j, j ≤ n → ∀ i, i < j → l i < 4 := fun j hj i hi => hl i (by omega)
  have hlive : ∀ j, j ≤ n → wl_live φ (wl_pc l j) := by
    intro j hj
    have := wl_live_pc t hl (Or.inr hz) (n - j)
    rw [show n - (n - j) = j by omega] at this
    exact this
  have hpos : ∀ j, j ≤ n → 1 ≤ wl_N D (wl_pc l j) := fun j hj => wl_N_pos hw hD ((wl_ip_pc hl hn).mpr ⟨j, hj, rfl⟩)
  have hnew : ∀ i j, i < j → j ≤ n → wl_pc l i ≠ wl_pc l j := fun i j hij hj e => absurd (wl_pc_ne (hlj i (by omega)) (hlj j hj) (by omega) (by omega) e) (by omega)
  have key : ∀ m i s1 s2 s3 s5, i + m = n → wl_PI φ a1 a2 (upd a3 (φ (wl_pc l n)) (-1)) (fun y => y ≠ 0 ∧ (∃ j, j < i ∧ y = wl_pc l j) ∧ wl_N D y = 1) (fun y => wl_N D y - if wl_ip y (wl_pc l i) = true then 1 else 0) s1 s2 s3 s5 → wX_prune_14 post (m + 1) (nI (φ (wl_pc l i))) (nI i) f1 (nI n) f3 f4 f5 f6 s1 s2 s3 a4 s5 a6 a7 a8 a9 a10 a11 := by
    intro m
    induction m with
    | zero =>
      intro i s1 s2 s3 s5 e hP
      have ei : i = n := by omega
      subst ei
      have hlt := wl_tr_lt' t (wl_pc l i)
      have hp := hpos i (by omega)
      have hle := wl_N_le D (wl_pc l i)
      have ev := hP.2.2 (wl_pc l i) (hlive i (by omega)) (fun q => by
        obtain ⟨j, hj, e⟩ := q.2.1
        exact hnew j i hj (by omega) e.symm)
      dsimp only at ev
      rw [wl_ip_self, if_pos rfl] at ev
      refine pk_le i i (fun _ => And.intro (pk_in _ 512 hlt) ?_) (fun q => absurd q (by omega))
      rw [nI_clamp (show φ (wl_pc l i) < 2 ^ 31 by omega)]
      refine pk_eq (wl_N D (wl_pc l i) - 1) 0 (fun q => wl_rel hlt (H _ _ _ _ _ _ (wl_pruned h hw hD hz (wl_PI_congr (wl_PI_rel t hP (hlive i (by omega))) (fun y => ?_) (fun y _ => rfl))))) (fun q => H _ _ _ _ _ _ (wl_pruned h hw hD hz (wl_PI_congr hP (fun y => ?_) (fun y _ => rfl)))) ev
      · rw [wl_ip_pc hl hn]
        constructor
        · rintro (r | r)
          · obtain ⟨r1, ⟨j, hj, r2⟩, r3⟩ := r
            exact ⟨r1, ⟨j, by omega, r2⟩, r3⟩
          · refine ⟨fun e0 => hz ?_, ⟨i, by omega, r⟩, by rw [r]; omega⟩
            rw [← r, e0]
            exact t.1
        · rintro ⟨r1, ⟨j, hj, r2⟩, r3⟩
          by_cases ej : j = i
          · exact Or.inr (by rw [r2, ej])
          · exact Or.inl ⟨r1, ⟨j, by omega, r2⟩, r3⟩
      · rw [wl_ip_pc hl hn]
        constructor
        · rintro ⟨r1, ⟨j, hj, r2⟩, r3⟩
          exact ⟨r1, ⟨j, by omega, r2⟩, r3⟩
        · rintro ⟨r1, ⟨j, hj, r2⟩, r3⟩
          refine ⟨r1, ⟨j, ?_, r2⟩, r3⟩
          by_cases ej : j = i
          · rw [r2, ej] at r3
            omega
          · omega
    | succ m ih =>
      intro i s1 s2 s3 s5 e hP
      have hlt := wl_tr_lt' t (wl_pc l i)
      have hlt' := wl_tr_lt' t (wl_pc l (i + 1))
      have hp := hpos i (by omega)
      have hp' := hpos (i + 1) (by omega)
      have hle := wl_N_le D (wl_pc l i)
      have li := hlive i (by omega)
      have li' := hlive (i + 1) (by omega)
      have hz' : φ (4 * wl_pc l i + l i + 1) ≠ 0 := by
        rcases li' with q | q
        · exact absurd q (by show 4 * wl_pc l i + l i + 1 ≠ 0; omega)
        · exact q
      have hRn : ∀ j, i ≤ j → j ≤ n → ¬ (wl_pc l j ≠ 0 ∧ (∃ k, k < i ∧ wl_pc l j = wl_pc l k) ∧ wl_N D (wl_pc l j) = 1) := by
        intro j hj hjn q
        obtain ⟨k, hk, e⟩ := q.2.1
        exact hnew k j (by omega) hjn e.symm
      have hcell : ∀ j, i ≤ j → j ≤ n → s1 (φ (wl_pc l j)) = a1 (φ (wl_pc l j)) ∧ s2 (φ (wl_pc l j)) = a2 (φ (wl_pc l j)) := by
        intro j hj hjn
        have q := hP.1 (φ (wl_pc l j)) (fun y hy e => by
          have hy1 : wl_live φ y := by
            obtain ⟨k, hk, e'⟩ := hy.2.1
            rw [e']
            exact hlive k (by omega)
          have := wl_tr_inj t hy1 (hlive j hjn) e
          rw [this] at hy
          exact hRn j hj hjn hy)
        exact ⟨q.1, q.2.1⟩
      have ev := hP.2.2 (wl_pc l i) li (hRn i (by omega) (by omega))
      dsimp only at ev
      rw [wl_ip_self, if_pos rfl] at ev
      obtain ⟨c1, c2⟩ := wl_ch1 t (fun _ _ => rfl) (hl i (by omega)) hz'
      obtain ⟨eb, hb⟩ := t.2.2.1 _ li
      have p52 : ∀ s1 s2 s3 s5, wl_PI φ a1 a2 (upd a3 (φ (wl_pc l n)) (-1)) (fun y => y ≠ 0 ∧ (∃ j, j < i + 1 ∧ y = wl_pc l j) ∧ wl_N D y = 1) (fun y => wl_N D y - if wl_ip y (wl_pc l i) = true then 1 else 0) s1 s2 s3 s5 → wX_prune_52 post (wX_prune_14 post (m + 1)) (nI i) (nI (φ (wl_pc l (i + 1)))) f1 (nI n) f3 f4 f5 f6 s1 s2 s3 a4 s5 a6 a7 a8 a9 a10 a11 := by
        intro s1 s2 s3 s5 hP
        have e1 : (nI (φ (wl_pc l (i + 1)))).toNatClampNeg = φ (wl_pc l (i + 1)) := nI_clamp (by omega)
        refine And.intro (pk_in _ 512 hlt') (And.intro (pk_in _ 512 hlt') (nm_r (e' := upd s5 (φ (wl_pc l (i + 1))) (s5 (φ (wl_pc l (i + 1))) - 1)) (by rw [e1]) (nm_r (nI_1 i) (ih (i + 1) s1 s2 s3 _ (by omega) (wl_PI_dec t hP li' ?_ ?_ (fun y hy => ?_))))))
        · intro q
          obtain ⟨k, hk, e⟩ := q.2.1
          exact hnew k (i + 1) (by omega) (by omega) e.symm
        · rw [wl_ip_new (hlj (i + 1) (by omega)) (by omega), wl_ip_self]
          simp only [if_pos]
          rw [if_neg (by decide)]
          omega
        · rw [wl_ip_succ (hlj (i + 1) (by omega)) (by omega) hy]
      refine pk_le n i (fun q => absurd q (by omega)) (fun _ => And.intro (pk_in i 5 (by omega)) ?_)
      rw [nI_clamp (show i < 2 ^ 31 by omega), h6 i (by omega)]
      refine wl_child_raw (B := b (wl_pc l i)) hlt hb (hl i (by omega)) (by rw [(hcell i (by omega) (by omega)).1]; exact eb) ?_ ?_
      · have := (hcell (i + 1) (by omega) (by omega)).2
        rw [show wl_pc l (i + 1) = 4 * wl_pc l i + l i + 1 from rfl, c1] at this
        rw [this]
        exact c2
      · rw [← c1]
        refine And.intro (pk_in _ 512 hlt) ?_
        rw [nI_clamp (show φ (wl_pc l i) < 2 ^ 31 by omega)]
        refine pk_eq (wl_N D (wl_pc l i) - 1) 0 (fun q => pk_eq (φ (wl_pc l i)) 0 (fun r => p52 s1 s2 s3 s5 (wl_PI_congr hP (fun y => ?_) (fun y _ => rfl))) (fun r => wl_rel hlt (p52 _ _ _ _ (wl_PI_congr (wl_PI_rel t hP li) (fun y => ?_) (fun y _ => rfl))))) (fun q => p52 s1 s2 s3 s5 (wl_PI_congr hP (fun y => ?_) (fun y _ => rfl))) ev
        · constructor
          · rintro ⟨r1, ⟨j, hj, r2⟩, r3⟩
            exact ⟨r1, ⟨j, by omega, r2⟩, r3⟩
          · rintro ⟨r1, ⟨j, hj, r2⟩, r3⟩
            refine ⟨r1, ⟨j, ?_, r2⟩, r3⟩
            by_cases ej : j = i
            · rcases li with li | li
              · rw [r2, ej] at r1
                exact absurd li r1
              · exact absurd r li
            · omega
        · constructor
          · rintro (⟨r1, ⟨j, hj, r2⟩, r3⟩ | r2)
            · exact ⟨r1, ⟨j, by omega, r2⟩, r3⟩
            · refine ⟨fun e0 => r ?_, ⟨i, by omega, r2⟩, by rw [r2]; omega⟩
              rw [← r2, e0]
              exact t.1
          · rintro ⟨r1, ⟨j, hj, r2⟩, r3⟩
            by_cases ej : j = i
            · exact Or.inr (by rw [r2, ej])
            · exact Or.inl ⟨r1, ⟨j, by omega, r2⟩, r3⟩
        · constructor
          · rintro ⟨r1, ⟨j, hj, r2⟩, r3⟩
            exact ⟨r1, ⟨j, by omega, r2⟩, r3⟩
          · rintro ⟨r1, ⟨j, hj, r2⟩, r3⟩
            refine ⟨r1, ⟨j, ?_, r2⟩, r3⟩
            by_cases ej : j = i
            · rw [r2, ej] at r3
              omega
            · omega
  have base : wl_PI φ a1 a2 (upd a3 (φ (wl_pc l n)) (-1)) (fun y => y ≠ 0 ∧ (∃ j, j < 0 ∧ y = wl_pc l j) ∧ wl_N D y = 1) (wl_N D) a1 a2 (upd a3 (φ (wl_pc l n)) (-1)) a5 :=
    ⟨fun k _ => ⟨rfl, rfl, rfl⟩, fun y hy => by
      obtain ⟨j, hj, _⟩ := hy.2.1
      exact absurd hj (by omega), fun y hy _ => t5 y hy⟩
  have k0 := key n 0 a1 a2 (upd a3 (φ (wl_pc l n)) (-1)) _ (by omega) (wl_PI_dec t base (Or.inl rfl) (fun q => q.1 rfl) (by
    rw [show wl_pc l 0 = 0 from rfl, wl_ip_self]
    simp only [if_pos]
    have := hpos 0 (by omega)
    rw [show wl_pc l 0 = 0 from rfl] at this
    omega) (fun y hy => by
    rw [show wl_pc l 0 = 0 from rfl, if_neg (fun q => ?_)]
    · rfl
    · rcases wl_ip_iff.mp q with e | e | e | e | e <;> exact hy e))
  rw [show wl_pc l 0 = 0 from rfl, t.1] at k0
  exact nm_e ⟨n + 1, k0⟩
theorem wl_forget {post : Int32 → St2 → Prop} (h : wl_DI φ b D K a1 a2 a3 a4 a5) {l : Nat → Nat} {n : Nat} (hn1 : 1 ≤ n) (hn : n ≤ 4) (hl : ∀ i, i < n → l i < 4) (h6 : ∀ i, i < n → a6 i = nI (l i))
    (H : ∀ r ψ b' E L s1 s2 s3 s4 s5 g2 g4, wl_DI ψ b' E L s1 s2 s3 s4 s5 → (g4 = 0 ∨ (g4 = f4 ∧ E = D)) → post r (f1, g2, f3, g4, f5, f6, s1, s2, s3, s4, s5, a6, a7, a8, a9, a10, a11)) :
    wpX_forget post (f1, nI n, f3, f4, f5, f6, a1, a2, a3, a4, a5, a6, a7, a8, a9, a10, a11) := by
  have fail : post (-1) (f1, nI n, f3, f4, f5, f6, a1, a2, a3, a4, a5, a6, a7, a8, a9, a10, a11) := H (-1) φ b D K a1 a2 a3 a4 a5 (nI n) f4 h (Or.inr ⟨rfl, rfl⟩)
  refine wl_find h.1.1 (by omega) hl h6 (fun hv => ?_) (fun hv => br_t (by decide) fail)
  have hlt := wl_tr_lt h.1.1 hv
  refine br_f (nI_pos (by omega)) (And.intro (pk_in _ 512 hlt) ?_)
  rw [nI_clamp (show φ (wl_pc l n) < 2 ^ 31 by omega), h.1.2.1 _ hv]
  rcases h.1.2.2.2 (wl_pc l n) with eD | ⟨⟨c', hc', eD⟩, _, hz, _⟩
  · exact br_f (by rw [eD]; decide) fail
  · have hD : 0 ≤ D (wl_pc l n) := by
      rw [eD]
      exact nI_pos' (by omega)
    exact br_t hD (And.intro (pk_in _ 512 hlt) (nm_e (wl_prune h hn1 hn hl h6 hD hz (fun ψ E s1 s2 s3 s5 hh => H _ ψ b E K s1 s2 s3 a4 s5 0 0 hh (Or.inl rfl)))))
end
end
section
/-! usePiece, cutText, cost, ways, start -/
theorem wl_PFD {φ b : Nat → Nat} {D K a1 a2 a3 a4 a8 : Nat → Int32} (h : wl_RD φ b D K a1 a2 a3 a4) {t : Nat → Nat} {n q : Nat} {pen : Int32} (hp : pen = nI q) (hq : q ≤ 32) (h8 : ∀ j, j < 16 → ∃ v, v ≤ 15 ∧ a8 j = nI v) : wl_PF (wl_fc D t n pen) (wl_kk D t n) n a8 := by
  have key : ∀ p l, (p + l ≤ n → l = 1 → ¬ wl_fc D t n pen p l < 0) ∧ (wl_fc D t n pen p l < 0 ∨ ((∃ c, c ≤ 32 ∧ wl_fc D t n pen p l = nI c) ∧ p + l ≤ n ∧ wl_kk D t n p l < 4)) := by
    intro p l
    by_cases hle : p + l ≤ n
    · rcases h.2.2.2 (wl_tc t p l) with e | ⟨⟨c, hc, e⟩, _, _, _⟩
      · obtain ⟨g1, g2⟩ := wl_fc_un (pen := pen) hle e
        rw [g1, g2]
        by_cases el : l = 1
        · rw [if_pos el, hp]
          exact ⟨fun _ _ => nI_pos (by omega), Or.inr ⟨⟨q, hq, rfl⟩, hle, by omega⟩⟩
        · rw [if_neg el]
          exact ⟨fun _ e => absurd e el, Or.inl (by decide)⟩
      · obtain ⟨g1, g2⟩ := wl_fc_kn (pen := pen) hle hc e
        rw [g1, g2]
        exact ⟨fun _ _ => nI_pos (by omega), Or.inr ⟨⟨c, by omega, rfl⟩, hle, by omega⟩⟩
    · obtain ⟨g1, g2⟩ := wl_fc_out (D := D) (t := t) (pen := pen) (show n < p + l by omega)
      rw [g1]
      exact ⟨fun q => absurd q hle, Or.inl (by decide)⟩
  exact ⟨fun p l => (key p l).2, fun p hp => (key p 1).1 (by omega) rfl, h8⟩
theorem wl_ix (p k : Nat) : (5 : Int32) * nI p + nI k = nI (5 * p + k) := by
  rw [show (5 : Int32) = nI 5 from rfl, pk_mul, nI_add]
section
variable {f1 f2 f3 f4 f5 f6 : Int32} {a1 a2 a3 a4 a5 a6 a7 a8 a9 a10 a11 : Nat → Int32} {φ b : Nat → Nat} {D K : Nat → Int32} {t : Nat → Nat} {n : Nat}
theorem wl_u55 {post : St2 → Prop} {J : Int32 → (Nat → Int32) → (Nat → Int32) → (Nat → Int32) → (Nat → Int32) → (Nat → Int32) → (Nat → Int32) → (Nat → Int32) → (Nat → Int32) → (Nat → Int32) → (Nat → Int32) → (Nat → Int32) → Prop} {p k l r : Nat} {z0 z1 : Int32} (hat : 5 * p + k < 65) (hr : r < 65)
    (H : ∀ s9 s10 s11, (s9 (5 * p + k), s10 (5 * p + k), s11 (5 * p + k)) = wl_st (z1 + z0) (a10 r) (nI l) (a9 (5 * p + k), a10 (5 * p + k), a11 (5 * p + k)) → (∀ i, i ≠ 5 * p + k → s9 i = a9 i ∧ s10 i = a10 i ∧ s11 i = a11 i) → J (nI (k + 1)) a1 a2 a3 a4 a5 a6 a7 a8 s9 s10 s11) :
    wX_usePiece_55 post J (nI p) (nI l) (nI r) (nI k) z0 z1 f1 f2 f3 f4 f5 f6 a1 a2 a3 a4 a5 a6 a7 a8 a9 a10 a11 := by
  have i1 := pk_in (x := nI (5 * p + k)) (5 * p + k) 65 hat
  have i2 := pk_in (x := nI r) r 65 hr
  refine nm_e (nm_r (wl_ix p k) (And.intro i1 ?_))
  rw [nI_clamp (show 5 * p + k < 2 ^ 31 by omega), nI_clamp (show r < 2 ^ 31 by omega)]
  refine br_c (fun g => And.intro i1 (br_c (fun g2 => And.intro i1 (And.intro i2 (And.intro i1 (nm_e (And.intro i1 (nm_e (nm_r (nI_1 k) (H _ _ _ ?_ ?_)))))))) (fun g2 => nm_r (nI_1 k) (H _ _ _ ?_ (fun i hi => ⟨rfl, rfl, rfl⟩))))) (fun g => And.intro i1 (nm_e (And.intro i2 (And.intro i1 (nm_e (And.intro i1 (nm_e (nm_r (nI_1 k) (H _ _ _ ?_ ?_)))))))))
  · unfold wl_st
    rw [if_pos g, if_pos g2, pk_us, pk_us]
  · intro i hi
    rw [pk_un hi, pk_un hi]
    exact ⟨rfl, rfl, rfl⟩
  · unfold wl_st
    rw [if_pos g, if_neg g2]
  · unfold wl_st
    rw [if_neg g, pk_us, pk_us, pk_us]
  · intro i hi
    rw [pk_un hi, pk_un hi, pk_un hi]
    exact ⟨rfl, rfl, rfl⟩
theorem wl_use {post : St2 → Prop} {p l kd : Nat} (hp : p + l ≤ 12) (hl : 1 ≤ l) (hkd : kd < 4)
    (H : ∀ s9 s10 s11, (∀ k, k < 5 → (s9 (5 * p + k), s10 (5 * p + k), s11 (5 * p + k)) = wl_st (f5 + a9 (5 * (p + l) + kd) + (if k < 4 then a8 (4 * k + kd) else 0)) (a10 (5 * (p + l) + kd)) (nI l) (a9 (5 * p + k), a10 (5 * p + k), a11 (5 * p + k))) → (∀ i, i < 5 * p ∨ 5 * p + 5 ≤ i → s9 i = a9 i ∧ s10 i = a10 i ∧ s11 i = a11 i) → post (f1, f2, f3, f4, f5, nI kd, a1, a2, a3, a4, a5, a6, a7, a8, s9, s10, s11)) :
    wpX_usePiece post (f1, f2, f3, f4, f5, nI kd, a1, a2, a3, a4, a5, a6, a7, a8, a9, a10, a11) (nI p) (nI l) := by
  have key : ∀ m k s9 s10 s11, k + m = 5 → (∀ j, j < k → (s9 (5 * p + j), s10 (5 * p + j), s11 (5 * p + j)) = wl_st (f5 + a9 (5 * (p + l) + kd) + (if j < 4 then a8 (4 * j + kd) else 0)) (a10 (5 * (p + l) + kd)) (nI l) (a9 (5 * p + j), a10 (5 * p + j), a11 (5 * p + j))) → (∀ i, i < 5 * p ∨ 5 * p + k ≤ i → s9 i = a9 i ∧ s10 i = a10 i ∧ s11 i = a11 i) →
      wX_usePiece_14 post (nI p) (nI l) (nI (5 * (p + l) + kd)) f1 f2 f3 f4 f5 (nI kd) (m + 1) (nI k) a1 a2 a3 a4 a5 a6 a7 a8 s9 s10 s11 := by
    intro m
    induction m with
    | zero =>
      intro k s9 s10 s11 e hd hs
      have : k = 5 := by omega
      subst this
      exact pk_le 5 5 (fun _ => H s9 s10 s11 hd hs) (fun z => absurd z (by omega))
    | succ m ih =>
      intro k s9 s10 s11 e hd hs
      obtain ⟨r1, r2, r3⟩ := hs (5 * (p + l) + kd) (by omega)
      obtain ⟨q1, q2, q3⟩ := hs (5 * p + k) (by omega)
      have fin : ∀ z0 : Int32, z0 = (if k < 4 then a8 (4 * k + kd) else 0) → wX_usePiece_55 post (wX_usePiece_14 post (nI p) (nI l) (nI (5 * (p + l) + kd)) f1 f2 f3 f4 f5 (nI kd) (m + 1)) (nI p) (nI l) (nI (5 * (p + l) + kd)) (nI k) z0 (f5 + s9 (5 * (p + l) + kd)) f1 f2 f3 f4 f5 (nI kd) a1 a2 a3 a4 a5 a6 a7 a8 s9 s10 s11 := by
        intro z0 ez
        refine wl_u55 (by omega) (by omega) (fun t9 t10 t11 he ho => ih (k + 1) t9 t10 t11 (by omega) (fun j hj => ?_) (fun i hi => ?_))
        · by_cases ej : j = k
          · subst ej
            rw [he, r1, r2, q1, q2, q3, ez]
          · obtain ⟨o1, o2, o3⟩ := ho (5 * p + j) (by omega)
            rw [o1, o2, o3]
            exact hd j (by omega)
        · obtain ⟨o1, o2, o3⟩ := ho i (by omega)
          rw [o1, o2, o3]
          exact hs i (by omega)
      refine pk_le 5 k (fun z => absurd z (by omega)) (fun _ => And.intro (pk_in (5 * (p + l) + kd) 65 (by omega)) ?_)
      rw [nI_clamp (show 5 * (p + l) + kd < 2 ^ 31 by omega)]
      refine pk_le 4 k (fun z => fin 0 (by rw [if_neg (by omega)])) (fun z => ?_)
      rw [show (4 : Int32) * nI k + nI kd = nI (4 * k + kd) by rw [show (4 : Int32) = nI 4 from rfl, pk_mul, nI_add]]
      refine And.intro (pk_in (4 * k + kd) 16 (by omega)) ?_
      rw [nI_clamp (show 4 * k + kd < 2 ^ 31 by omega)]
      exact fin _ (by rw [if_pos (by omega)])
  refine nm_r (e' := nI (5 * (p + l) + kd)) (by rw [nI_add, wl_ix]) ⟨6, key 5 0 a9 a10 a11 (by omega) (fun j hj => absurd hj (by omega)) (fun i _ => ⟨rfl, rfl, rfl⟩)⟩
theorem wl_c117 {post : St2 → Prop} {J : Int32 → Int32 → Int32 → Int32 → Int32 → Int32 → Int32 → (Nat → Int32) → (Nat → Int32) → (Nat → Int32) → (Nat → Int32) → (Nat → Int32) → (Nat → Int32) → (Nat → Int32) → (Nat → Int32) → (Nat → Int32) → (Nat → Int32) → (Nat → Int32) → Prop} (hR : wl_RD φ b D K a1 a2 a3 a4) (hn : n ≤ 12) (ht : ∀ i, i < n → t i < 4 ∧ a7 i = nI (t i)) (hP : wl_PF (wl_fc D t n f1) (wl_kk D t n) n a8) {p : Nat} (hp : p < n)
    (H : ∀ g5 g6 s9 s10 s11, (∀ k, k < 5 → ∃ z, (s9 (5 * p + k), s10 (5 * p + k), s11 (5 * p + k)) = wl_F (wl_fc D t n f1) (wl_kk D t n) a8 a9 a10 p k z 5) → (∀ i, i < 5 * p ∨ 5 * p + 5 ≤ i → s9 i = a9 i ∧ s10 i = a10 i ∧ s11 i = a11 i) → J (nI p + (-1)) f1 f2 (nI n) f4 g5 g6 a1 a2 a3 a4 a5 a6 a7 a8 s9 s10 s11) :
    ∀ m l g5 g6 s9 s10 s11, l + m = 5 → (∀ k, k < 5 → ∃ z, (s9 (5 * p + k), s10 (5 * p + k), s11 (5 * p + k)) = wl_F (wl_fc D t n f1) (wl_kk D t n) a8 a9 a10 p k z l) → (∀ i, i < 5 * p ∨ 5 * p + 5 ≤ i → s9 i = a9 i ∧ s10 i = a10 i ∧ s11 i = a11 i) →
      wX_cutText_117 post J (nI p) (m + 1) (nI (l + 1)) f1 f2 (nI n) f4 g5 g6 a1 a2 a3 a4 a5 a6 a7 a8 s9 s10 s11 := by
  intro m
  induction m with
  | zero =>
    intro l g5 g6 s9 s10 s11 e hd hs
    have : l = 5 := by omega
    subst this
    exact pk_lt 5 6 (fun _ => nm_e (H g5 g6 s9 s10 s11 hd hs)) (fun z => absurd z (by omega))
  | succ m ih =>
    intro l g5 g6 s9 s10 s11 e hd hs
    refine pk_lt 5 (l + 1) (fun z => absurd z (by omega)) (fun _ => wl_fit hR hn ht (by omega) (by omega) (by omega) ?_)
    refine br_c (fun g => nm_r (nI_1 (l + 1)) (ih (l + 1) _ _ s9 s10 s11 (by omega) (fun k hk => ?_) hs)) (fun g => ?_)
    · obtain ⟨z, ez⟩ := hd k hk
      refine ⟨z, ?_⟩
      rw [ez]
      exact (if_pos g).symm
    · rcases hP.1 p (l + 1) with q | ⟨_, hpl, hkk⟩
      · exact absurd q g
      · refine wl_use (by omega) (by omega) hkk (fun t9 t10 t11 he ho => nm_r (nI_1 (l + 1)) (ih (l + 1) _ _ t9 t10 t11 (by omega) (fun k hk => ?_) (fun i hi => ?_)))
        · obtain ⟨z, ez⟩ := hd k hk
          obtain ⟨r1, r2, r3⟩ := hs (5 * (p + (l + 1)) + wl_kk D t n p (l + 1)) (by omega)
          refine ⟨z, ?_⟩
          rw [he k hk, ez, r1, r2]
          exact (if_neg g).symm
        · obtain ⟨o1, o2, o3⟩ := ho i hi
          rw [o1, o2, o3]
          exact hs i hi
theorem wl_c81 {post : St2 → Prop} {J : Int32 → Int32 → Int32 → Int32 → Int32 → Int32 → Int32 → (Nat → Int32) → (Nat → Int32) → (Nat → Int32) → (Nat → Int32) → (Nat → Int32) → (Nat → Int32) → (Nat → Int32) → (Nat → Int32) → (Nat → Int32) → (Nat → Int32) → (Nat → Int32) → Prop} (hR : wl_RD φ b D K a1 a2 a3 a4) (hn : n ≤ 12) (ht : ∀ i, i < n → t i < 4 ∧ a7 i = nI (t i)) (hP : wl_PF (wl_fc D t n f1) (wl_kk D t n) n a8) {p : Nat} (hp : p < n)
    (H : ∀ g5 g6 s9 s10 s11, (∀ k, k < 5 → ∃ z, (s9 (5 * p + k), s10 (5 * p + k), s11 (5 * p + k)) = wl_F (wl_fc D t n f1) (wl_kk D t n) a8 a9 a10 p k z 5) → (∀ i, i < 5 * p ∨ 5 * p + 5 ≤ i → s9 i = a9 i ∧ s10 i = a10 i ∧ s11 i = a11 i) → J (nI p + (-1)) f1 f2 (nI n) f4 g5 g6 a1 a2 a3 a4 a5 a6 a7 a8 s9 s10 s11) :
    ∃ fu, wX_cutText_81 post J (nI p) f1 f2 (nI n) f4 f5 f6 fu 0 a1 a2 a3 a4 a5 a6 a7 a8 a9 a10 a11 := by
  have key : ∀ m k s9 s10, k + m = 5 → (∀ j, j < k → s9 (5 * p + j) = 1000000 ∧ s10 (5 * p + j) = 0) → (∀ i, i < 5 * p ∨ 5 * p + 5 ≤ i → s9 i = a9 i ∧ s10 i = a10 i) → wX_cutText_81 post J (nI p) f1 f2 (nI n) f4 f5 f6 (m + 1) (nI k) a1 a2 a3 a4 a5 a6 a7 a8 s9 s10 a11 := by
    intro m
    induction m with
    | zero =>
      intro k s9 s10 e hd hs
      have : k = 5 := by omega
      subst this
      refine pk_le 5 5 (fun _ => ⟨6, ?_⟩) (fun z => absurd z (by omega))
      have cg : ∀ k z, wl_F (wl_fc D t n f1) (wl_kk D t n) a8 s9 s10 p k z 5 = wl_F (wl_fc D t n f1) (wl_kk D t n) a8 a9 a10 p k z 5 := fun k z => wl_F_congr (fun _ _ => rfl) (fun l hl _ => ⟨rfl, (hs _ (by omega)).1, (hs _ (by omega)).2⟩) 5
      refine wl_c117 hR hn ht hP hp (fun g5 g6 t9 t10 t11 he ho => H g5 g6 t9 t10 t11 (fun k hk => ?_) (fun i hi => ?_)) 5 0 f5 f6 s9 s10 a11 (by omega) (fun k hk => ⟨a11 (5 * p + k), ?_⟩) (fun i hi => ⟨rfl, rfl, rfl⟩)
      · obtain ⟨z, ez⟩ := he k hk
        exact ⟨z, by rw [ez, cg]⟩
      · obtain ⟨o1, o2, o3⟩ := ho i hi
        rw [o1, o2, o3]
        exact ⟨(hs i hi).1, (hs i hi).2, rfl⟩
      · rw [(hd k hk).1, (hd k hk).2]
        rfl
    | succ m ih =>
      intro k s9 s10 e hd hs
      refine pk_le 5 k (fun z => absurd z (by omega)) (fun _ => ?_)
      rw [wl_ix]
      have i1 := pk_in (x := nI (5 * p + k)) (5 * p + k) 65 (by omega)
      rw [nI_clamp (show 5 * p + k < 2 ^ 31 by omega)]
      refine And.intro i1 (nm_e (And.intro i1 (nm_e (nm_r (nI_1 k) (ih (k + 1) _ _ (by omega) (fun j hj => ?_) (fun i hi => ?_))))))
      · by_cases ej : j = k
        · rw [ej, pk_us, pk_us]
          exact ⟨rfl, rfl⟩
        · rw [pk_un (by omega), pk_un (by omega)]
          exact hd j (by omega)
      · rw [pk_un (by omega), pk_un (by omega)]
        exact hs i hi
  exact ⟨6, key 5 0 a9 a10 (by omega) (fun j hj => absurd hj (by omega)) (fun i _ => ⟨rfl, rfl⟩)⟩
theorem wl_c75 {post : St2 → Prop} (hR : wl_RD φ b D K a1 a2 a3 a4) (hn : n ≤ 12) (ht : ∀ i, i < n → t i < 4 ∧ a7 i = nI (t i)) (hP : wl_PF (wl_fc D t n f1) (wl_kk D t n) n a8)
    (H : ∀ g5 g6 s9 s10 s11, wl_DP (wl_fc D t n f1) (wl_kk D t n) n a8 s9 s10 s11 → post (f1, f2, nI n, f4, g5, g6, a1, a2, a3, a4, a5, a6, a7, a8, s9, s10, s11)) :
    ∀ q g5 g6 s9 s10 s11, q ≤ n → (∀ k, k < 5 → s9 (5 * n + k) = 0 ∧ s10 (5 * n + k) = 1 ∧ s11 (5 * n + k) = 0) → (∀ p k, q ≤ p → p < n → k < 5 → ∃ z, (s9 (5 * p + k), s10 (5 * p + k), s11 (5 * p + k)) = wl_F (wl_fc D t n f1) (wl_kk D t n) a8 s9 s10 p k z 5) →
      wX_cutText_75 post (q + 1) (nI q + (-1)) f1 f2 (nI n) f4 g5 g6 a1 a2 a3 a4 a5 a6 a7 a8 s9 s10 s11 := by
  intro q
  induction q with
  | zero =>
    intro g5 g6 s9 s10 s11 hq hb hd
    exact br_t (by decide) (H g5 g6 s9 s10 s11 ⟨hb, fun p k hp hk => hd p k (by omega) hp hk⟩)
  | succ q ih =>
    intro g5 g6 s9 s10 s11 hq hb hd
    rw [pk_m1]
    refine br_f (nI_pos (by omega)) (wl_c81 hR hn ht hP (by omega) (fun k5 k6 t9 t10 t11 he ho => ih k5 k6 t9 t10 t11 (by omega) (fun k hk => ?_) (fun p k hp hp' hk => ?_)))
    · obtain ⟨o1, o2, o3⟩ := ho (5 * n + k) (by omega)
      rw [o1, o2, o3]
      exact hb k hk
    · have cg : ∀ z, wl_F (wl_fc D t n f1) (wl_kk D t n) a8 t9 t10 p k z 5 = wl_F (wl_fc D t n f1) (wl_kk D t n) a8 s9 s10 p k z 5 := fun z => wl_F_congr (fun _ _ => rfl) (fun l hl _ => ⟨rfl, (ho _ (by omega)).1, (ho _ (by omega)).2.1⟩) 5
      by_cases ep : p = q
      · subst ep
        obtain ⟨z, ez⟩ := he k hk
        exact ⟨z, by rw [ez, cg]⟩
      · obtain ⟨z, ez⟩ := hd p k (by omega) hp' hk
        obtain ⟨o1, o2, o3⟩ := ho (5 * p + k) (by omega)
        exact ⟨z, by rw [o1, o2, o3, ez, cg]⟩
theorem wl_cut {post : St2 → Prop} (hR : wl_RD φ b D K a1 a2 a3 a4) (hn : n ≤ 12) (ht : ∀ i, i < n → t i < 4 ∧ a7 i = nI (t i)) (hP : wl_PF (wl_fc D t n f1) (wl_kk D t n) n a8) (hf : f4 = 0 ∨ (f4 = 1 ∧ wl_DP (wl_fc D t n f1) (wl_kk D t n) n a8 a9 a10 a11))
    (H : ∀ g5 g6 s9 s10 s11, wl_DP (wl_fc D t n f1) (wl_kk D t n) n a8 s9 s10 s11 → post (f1, f2, nI n, 1, g5, g6, a1, a2, a3, a4, a5, a6, a7, a8, s9, s10, s11)) : wpX_cutText post (f1, f2, nI n, f4, f5, f6, a1, a2, a3, a4, a5, a6, a7, a8, a9, a10, a11) := by
  have key : ∀ m k s9 s10 s11, k + m = 5 → (∀ j, j < k → s9 (5 * n + j) = 0 ∧ s10 (5 * n + j) = 1 ∧ s11 (5 * n + j) = 0) → wX_cutText_15 post f1 f2 (nI n) 1 f5 f6 (m + 1) (nI k) a1 a2 a3 a4 a5 a6 a7 a8 s9 s10 s11 := by
    intro m
    induction m with
    | zero =>
      intro k s9 s10 s11 e hd
      have : k = 5 := by omega
      subst this
      refine pk_le 5 5 (fun _ => nm_r (e' := nI n + (-1)) ?_ ⟨n + 1, wl_c75 hR hn ht hP H n f5 f6 s9 s10 s11 (by omega) hd (fun p k h1 h2 => absurd h1 (by omega))⟩) (fun z => absurd z (by omega))
      cases n with
      | zero => decide
      | succ n => rw [pk_m1, nI_pred]
    | succ m ih =>
      intro k s9 s10 s11 e hd
      refine pk_le 5 k (fun z => absurd z (by omega)) (fun _ => ?_)
      rw [wl_ix]
      have i1 := pk_in (x := nI (5 * n + k)) (5 * n + k) 65 (by omega)
      rw [nI_clamp (show 5 * n + k < 2 ^ 31 by omega)]
      refine And.intro i1 (nm_e (And.intro i1 (nm_e (And.intro i1 (nm_e (nm_r (nI_1 k) (ih (k + 1) _ _ _ (by omega) (fun j hj => ?_))))))))
      by_cases ej : j = k
      · rw [ej, pk_us, pk_us, pk_us]
        exact ⟨rfl, rfl, rfl⟩
      · rw [pk_un (by omega), pk_un (by omega), pk_un (by omega)]
        exact hd j (by omega)
  rcases hf with e | ⟨e, hd⟩
  · exact br_t e ⟨6, key 5 0 a9 a10 a11 (by omega) (fun j hj => absurd hj (by omega))⟩
  · subst e
    exact br_f (by decide) (H f5 f6 a9 a10 a11 hd)
theorem wl_cost {post : Int32 → St2 → Prop} (hR : wl_RD φ b D K a1 a2 a3 a4) (hn : n ≤ 12) (ht : ∀ i, i < n → t i < 4 ∧ a7 i = nI (t i)) (hP : wl_PF (wl_fc D t n f1) (wl_kk D t n) n a8) (hf : f4 = 0 ∨ (f4 = 1 ∧ wl_DP (wl_fc D t n f1) (wl_kk D t n) n a8 a9 a10 a11))
    (H : ∀ g5 g6 s9 s10 s11, wl_DP (wl_fc D t n f1) (wl_kk D t n) n a8 s9 s10 s11 → post (s9 4) (f1, f2, nI n, 1, g5, g6, a1, a2, a3, a4, a5, a6, a7, a8, s9, s10, s11)) : wpX_cost post (f1, f2, nI n, f4, f5, f6, a1, a2, a3, a4, a5, a6, a7, a8, a9, a10, a11) :=
  wl_cut hR hn ht hP hf (fun g5 g6 s9 s10 s11 hd => H g5 g6 s9 s10 s11 hd)
theorem wl_ways {post : Int32 → St2 → Prop} (H : post (a10 4) (f1, f2, f3, 1, f5, f6, a1, a2, a3, a4, a5, a6, a7, a8, a9, a10, a11)) : wpX_ways post (f1, f2, f3, 1, f5, f6, a1, a2, a3, a4, a5, a6, a7, a8, a9, a10, a11) :=
  br_f (by decide) H
theorem wl_start {post : Int32 → St2 → Prop} (hR : wl_RD φ b D K a1 a2 a3 a4) (hn : n ≤ 12) (ht : ∀ i, i < n → t i < 4 ∧ a7 i = nI (t i)) (g : wl_good (wl_fc D t n f1) (wl_kk D t n) n a8 a9 a11) {m : Nat} (hm : m ≤ 12)
    (H : ∀ g5 g6, post (wl_sv a11 (wl_kk D t n) n m) (f1, f2, nI n, 1, g5, g6, a1, a2, a3, a4, a5, a6, a7, a8, a9, a10, a11)) : wpX_start post (f1, f2, nI n, 1, f5, f6, a1, a2, a3, a4, a5, a6, a7, a8, a9, a10, a11) (nI m) := by
  have key : ∀ j k p q g5 g6, k + j = m → wl_sw a11 (wl_kk D t n) n k = (p, q) → (∀ i, i + 1 = k → (wl_sw a11 (wl_kk D t n) n i).1 < n) → wX_start_17 post (nI m) (j + 1) (nI p) (nI q) (nI k) f1 f2 (nI n) 1 g5 g6 a1 a2 a3 a4 a5 a6 a7 a8 a9 a10 a11 := by
    intro j
    induction j with
    | zero =>
      intro k p q g5 g6 e es hal
      have ek : k = m := by omega
      subst ek
      have hv : wl_sv a11 (wl_kk D t n) n k = nI p := by
        cases k with
        | zero =>
          injection es with e1 e2
          rw [← e1]
          rfl
        | succ k =>
          have := hal k rfl
          show (if n ≤ (wl_sw a11 (wl_kk D t n) n k).1 then (-1 : Int32) else nI (wl_sw a11 (wl_kk D t n) n (k + 1)).1) = _
          rw [if_neg (by omega), es]
      have hH := H g5 g6
      rw [hv] at hH
      exact pk_le 12 k (fun _ => pk_le k 12 (fun _ => hH) (fun z => absurd z (by omega))) (fun _ => pk_le k k (fun _ => pk_le k 12 (fun _ => hH) (fun z => absurd z (by omega))) (fun z => absurd z (by omega)))
    | succ j ih =>
      intro k p q g5 g6 e es hal
      obtain ⟨p', q', es', hq, hp, _⟩ := wl_sw_ok g k
      rw [es] at es'
      injection es' with e1 e2
      subst e1 e2
      refine pk_le 12 k (fun z => absurd z (by omega)) (fun _ => pk_le m k (fun z => absurd z (by omega)) (fun _ => pk_lt p n (fun hlt => ?_) (fun hge => ?_)))
      · obtain ⟨L, s1, s2, s3, s4, s5, s6, s7, s8⟩ := wl_sw_step g es hq hlt
        rw [wl_ix]
        refine And.intro (pk_in (5 * p + q) 65 (by omega)) (nm_r (e' := nI L) (by rw [nI_clamp (by omega), s2]) ?_)
        refine wl_fit hR hn ht (by omega) s3 s4 (nm_r (nI_add p L) (nm_r (nI_1 k) (ih (k + 1) (p + L) _ _ _ (by omega) s1 (fun i hi => ?_))))
        have : i = k := by omega
        rw [this, es]
        exact hlt
      · have hv : wl_sv a11 (wl_kk D t n) n m = -1 := by
          have st := wl_sw_stuck (a11 := a11) (kk := wl_kk D t n) (n := n) (m := k) (by rw [es]; exact hge) (m - 1 - k)
          rw [show k + (m - 1 - k) = m - 1 by omega, es] at st
          rw [show m = (m - 1) + 1 by omega]
          show (if n ≤ (wl_sw a11 (wl_kk D t n) n (m - 1)).1 then (-1 : Int32) else nI (wl_sw a11 (wl_kk D t n) n ((m - 1) + 1)).1) = _
          rw [if_pos (by rw [st]; exact hge)]
        have hH := H g5 g6
        rw [hv] at hH
        exact hH
  exact pk_le 0 m (fun _ => br_f (by decide) ⟨m + 1, key m 0 0 4 f5 f6 (by omega) rfl (fun i hi => absurd hi (by omega))⟩) (fun z => absurd z (by omega))
end
end
section
/-! the law's bits: letters of an int, the packed text, the packed links -/
def wl_lt (a : Int32) (i : Nat) : Nat := a.toBitVec.toNat / 4 ^ i % 4
theorem wl_lt4 (a : Int32) (i : Nat) : wl_lt a i < 4 := Nat.mod_lt _ (by decide)
theorem wl_hs : ∀ i, i < 12 → (((2 * nI i) &&& 31 : Int32).toBitVec.smod 32).toNat = 2 * i := by decide +kernel
theorem wl_ti (x : Int32) : (x.toInt = (x.toBitVec.toNat : Int) ∧ x.toBitVec.toNat < 2147483648) ∨ (x.toInt = (x.toBitVec.toNat : Int) - 4294967296 ∧ 2147483648 ≤ x.toBitVec.toNat ∧ x.toBitVec.toNat < 4294967296) := by
  have h : x.toInt = x.toBitVec.toInt := rfl
  have h2 := x.toBitVec.isLt
  rw [BitVec.toInt_eq_toNat_cond] at h
  by_cases g : 2 * x.toBitVec.toNat < 2 ^ 32
  · rw [if_pos g] at h
    exact Or.inl ⟨h, by omega⟩
  · rw [if_neg g] at h
    exact Or.inr ⟨by rw [h]; rfl, by omega, by omega⟩
theorem wl_sh {a s : Int32} {i : Nat} (hi : i < 12) (hs : (s.toBitVec.smod 32).toNat = 2 * i) : (a >>> s).toBitVec.toNat % 4 = a.toBitVec.toNat / 4 ^ i % 4 := by
  have h := pk_shr a s (2 * i) hs
  rw [Int.shiftRight_eq_div_pow] at h
  have h1 := wl_ti (a >>> s)
  have h2 := wl_ti a
  generalize (a >>> s).toInt = y at h h1
  generalize (a >>> s).toBitVec.toNat = Y at h1 ⊢
  generalize a.toInt = x at h h2
  generalize a.toBitVec.toNat = X at h2 ⊢
  rcases (by omega : i = 0 ∨ i = 1 ∨ i = 2 ∨ i = 3 ∨ i = 4 ∨ i = 5 ∨ i = 6 ∨ i = 7 ∨ i = 8 ∨ i = 9 ∨ i = 10 ∨ i = 11) with e | e | e | e | e | e | e | e | e | e | e | e <;> subst e <;> simp at h ⊢ <;> omega
theorem wl_let (a : Int32) {i : Nat} (hi : i < 12) : (a >>> ((2 * nI i) &&& 31)) &&& 3 = nI (wl_lt a i) := by
  rw [pk_and _ 2 (by decide), show (2 : Nat) ^ 2 = 4 from rfl, wl_sh hi (wl_hs i hi)]
  rfl
theorem wl_let3 (a : Int32) (i : Nat) : nI (wl_lt a i) &&& 3 = nI (wl_lt a i) := by
  have := wl_lt4 a i
  rw [pk_andN (by omega) 2 (by decide), show (2 : Nat) ^ 2 = 4 from rfl, Nat.mod_eq_of_lt this]
theorem wl_self (x : Int32) : x = nI x.toBitVec.toNat := Int32.toBitVec_inj.mp (by show _ = BitVec.ofNat 32 _; simp)
theorem wl_p4 {n : Nat} (h : n ≤ 12) : 4 ^ n ≤ 16777216 := by
  have : (4 : Nat) ^ n ≤ 4 ^ 12 := Nat.pow_le_pow_right (by decide) h
  omega
/-! one more letter at the text's end -/
theorem wl_app {X c n i : Nat} (h : i < n) : (4 ^ n * c + X) / 4 ^ i % 4 = X / 4 ^ i % 4 := by
  obtain ⟨d, rfl⟩ : ∃ d, n = i + 1 + d := ⟨n - i - 1, by omega⟩
  have e : 4 ^ (i + 1 + d) * c = 4 ^ i * (4 * (4 ^ d * c)) := by
    rw [Nat.pow_add, Nat.pow_succ, Nat.mul_assoc, Nat.mul_assoc]
  rw [e, Nat.mul_add_div (Nat.pow_pos (by decide)), Nat.mul_add_mod]
theorem wl_app_n {X c n : Nat} (h : X < 4 ^ n) (hc : c < 4) : (4 ^ n * c + X) / 4 ^ n % 4 = c := by
  rw [Nat.mul_add_div (Nat.pow_pos (by decide)), Nat.div_eq_of_lt h, Nat.add_zero, Nat.mod_eq_of_lt hc]
theorem wl_txt {x a : Int32} {n : Nat} (hn : n < 12) (hx : x.toBitVec.toNat < 4 ^ n) : ∃ X, (x ||| ((a &&& 3) <<< ((2 * nI n) &&& 31))) = nI X ∧ X < 4 ^ (n + 1) ∧ (∀ i, i < n → wl_lt (nI X) i = wl_lt x i) ∧ wl_lt (nI X) n = a.toBitVec.toNat % 4 := by
  have h12 := wl_p4 (show n ≤ 12 by omega)
  have hc : a.toBitVec.toNat % 4 < 4 := Nat.mod_lt _ (by decide)
  have e1 : a &&& 3 = nI (a.toBitVec.toNat % 4) := pk_and a 2 (by decide)
  have e2 : (2 : Nat) ^ (2 * n) = 4 ^ n := by rw [Nat.pow_mul]
  have hm : 4 ^ n * (a.toBitVec.toNat % 4) ≤ 4 ^ n * 3 := Nat.mul_le_mul_left _ (by omega)
  have hX : 4 ^ n * (a.toBitVec.toNat % 4) + x.toBitVec.toNat < 4 ^ (n + 1) := by
    rw [Nat.pow_succ]
    omega
  have h13 : (4 : Nat) ^ (n + 1) ≤ 16777216 := wl_p4 (by omega)
  have eX : (nI (4 ^ n * (a.toBitVec.toNat % 4) + x.toBitVec.toNat)).toBitVec.toNat = 4 ^ n * (a.toBitVec.toNat % 4) + x.toBitVec.toNat := pk_tn (by omega)
  refine ⟨4 ^ n * (a.toBitVec.toNat % 4) + x.toBitVec.toNat, ?_, hX, fun i hi => ?_, ?_⟩
  · rw [e1, pk_shlN _ (2 * n) (wl_hs n hn) (by rw [e2, Nat.mul_comm]; omega), e2]
    apply Int32.toBitVec_inj.mp
    apply BitVec.eq_of_toNat_eq
    rw [Int32.toBitVec_or, BitVec.toNat_or, pk_tn (by rw [Nat.mul_comm]; omega), eX, Nat.mul_comm _ (4 ^ n), ← e2, Nat.two_pow_add_eq_or_of_lt (by rw [e2]; exact hx), Nat.or_comm]
  · unfold wl_lt
    rw [eX, wl_app hi]
  · unfold wl_lt
    rw [eX, wl_app_n hx hc]
/-! a word in the text -/
theorem wl_dig {A Y len : Nat} (h4 : len ≤ 4) (h : ∀ i, i < len → A / 4 ^ i % 4 = Y / 4 ^ i % 4) : A % 2 ^ (2 * len) = Y % 2 ^ (2 * len) := by
  have h0 := h 0
  have h1 := h 1
  have h2 := h 2
  have h3 := h 3
  clear h
  rcases (by omega : len = 0 ∨ len = 1 ∨ len = 2 ∨ len = 3 ∨ len = 4) with e | e | e | e | e <;> subst e <;> simp at h0 h1 h2 h3 ⊢ <;> omega
theorem wl_mask : ∀ l, l < 5 → ((((1 : Int32) <<< ((2 * nI l) &&& 31)) - 1 : Int32)).toBitVec.toNat = 2 ^ (2 * l) - 1 := by decide +kernel
theorem wl_in_text {x a : Int32} {p len : Nat} (hp : p < 12) (hx : x.toBitVec.toNat < 2 ^ 31) (h4 : len ≤ 4) (e : wl_pc (wl_lt a) len = wl_pc (fun i => wl_lt x (p + i)) len) :
    (x >>> ((2 * nI p) &&& 31)) &&& (((1 : Int32) <<< ((2 * nI len) &&& 31)) - 1) = a &&& (((1 : Int32) <<< ((2 * nI len) &&& 31)) - 1) := by
  have hi := wl_pc_inj len (fun i _ => wl_lt4 a i) (fun i _ => wl_lt4 x (p + i)) e
  have ex : x >>> ((2 * nI p) &&& 31) = nI (x.toBitVec.toNat / 4 ^ p) := by
    have := pk_shrN hx _ (2 * p) (wl_hs p hp)
    rw [← wl_self, Nat.pow_mul] at this
    exact this
  have hle : x.toBitVec.toNat / 4 ^ p ≤ x.toBitVec.toNat := Nat.div_le_self _ _
  rw [pk_and _ (2 * len) (wl_mask len (by omega)), pk_and a (2 * len) (wl_mask len (by omega)), ex, pk_tn (by omega), wl_dig (A := a.toBitVec.toNat) (Y := x.toBitVec.toNat / 4 ^ p) h4 (fun i hi' => ?_)]
  rw [Nat.div_div_eq_div_mul, ← Nat.pow_add]
  exact hi i hi'
/-! the links -/
def wl_lk (x : Int64) (a8 : Nat → Int32) : Prop := ∀ j, j < 16 → (∃ v, v ≤ 15 ∧ a8 j = nI v) ∧ (x >>> ((nI (4 * j)).toInt64 &&& 63)).toInt32 &&& 15 = a8 j
theorem wl_ls6 : ∀ i, i < 16 → (((nI (4 * i)).toInt64 &&& 63).toBitVec.smod 64).toNat = 4 * i := by decide +kernel
theorem wl_b15 : ∀ b, b < 32 → (15 : Int32).toBitVec.getLsbD b = decide (b < 4) := by decide +kernel
theorem wl_nib (x : Int64) {i b : Nat} (hi : i < 16) (hb : b < 32) : ((x >>> ((nI (4 * i)).toInt64 &&& 63)).toInt32 &&& 15).toBitVec.getLsbD b = (decide (b < 4) && x.toBitVec.getLsbD (4 * i + b)) := by
  rw [Int32.toBitVec_and, BitVec.getLsbD_and, wl_b15 b hb, Bool.and_comm]
  by_cases h4 : b < 4
  · rw [decide_eq_true h4, Bool.true_and, Bool.true_and, Int64.toBitVec_toInt32, BitVec.getLsbD_signExtend, Int64.toBitVec_shiftRight]
    show (decide (b < 32) && if b < 64 then (x.toBitVec.sshiftRight (((nI (4 * i)).toInt64 &&& 63).toBitVec.smod 64).toNat).getLsbD b else _) = _
    rw [wl_ls6 i hi, if_pos (by omega), BitVec.getLsbD_sshiftRight, if_pos (by omega)]
    simp [hb]
    omega
  · rw [decide_eq_false h4, Bool.false_and, Bool.false_and]
theorem wl_m15 : ∀ i, i < 16 → ∀ j, j < 16 → ∀ b, b < 4 → (((15 : Int64) <<< ((nI (4 * j)).toInt64 &&& 63)) ^^^ (-1)).toBitVec.getLsbD (4 * i + b) = decide (i ≠ j) := by decide +kernel
theorem wl_cb : ∀ i, i < 16 → ∀ j, j < 16 → ∀ v, v < 16 → ∀ b, b < 4 → ((nI v).toInt64 <<< ((nI (4 * j)).toInt64 &&& 63)).toBitVec.getLsbD (4 * i + b) = (decide (i = j) && v.testBit b) := by decide +kernel
theorem wl_nv4 : ∀ v, v < 16 → ∀ b, b < 32 → (nI v).toBitVec.getLsbD b = (decide (b < 4) && v.testBit b) := by decide +kernel
theorem wl_lk_put {x : Int64} {a8 : Nat → Int32} (h : wl_lk x a8) {j v : Nat} (hj : j < 16) (hv : v ≤ 15) : wl_lk ((x &&& (((15 : Int64) <<< ((nI (4 * j)).toInt64 &&& 63)) ^^^ (-1))) ||| ((nI v).toInt64 <<< ((nI (4 * j)).toInt64 &&& 63))) (upd a8 j (nI v)) := by
  intro i hi
  by_cases e : i = j
  · subst e
    rw [pk_us]
    refine ⟨⟨v, hv, rfl⟩, Int32.toBitVec_inj.mp (BitVec.eq_of_getLsbD_eq (fun b hb => ?_))⟩
    rw [wl_nib _ hi hb, wl_nv4 v (by omega) b hb]
    by_cases h4 : b < 4
    · rw [Int64.toBitVec_or, BitVec.getLsbD_or, Int64.toBitVec_and, BitVec.getLsbD_and, wl_m15 i hi i hi b h4, wl_cb i hi i hi v (by omega) b h4]
      simp
    · simp [h4]
  · rw [pk_un e]
    obtain ⟨h1, h2⟩ := h i hi
    refine ⟨h1, ?_⟩
    rw [← h2]
    refine Int32.toBitVec_inj.mp (BitVec.eq_of_getLsbD_eq (fun b hb => ?_))
    rw [wl_nib _ hi hb, wl_nib _ hi hb]
    by_cases h4 : b < 4
    · rw [Int64.toBitVec_or, BitVec.getLsbD_or, Int64.toBitVec_and, BitVec.getLsbD_and, wl_m15 i hi j hj b h4, wl_cb i hi j hj v (by omega) b h4]
      simp [e]
    · simp [h4]
theorem wl_lk_0 : wl_lk 0 (fun _ => 0) := by
  intro j hj
  exact ⟨⟨0, by omega, rfl⟩, (by decide +kernel : ∀ j, j < 16 → ((0 : Int64) >>> ((nI (4 * j)).toInt64 &&& 63)).toInt32 &&& 15 = 0) j hj⟩
end
section
/-! the law's own methods: spell, part, chosen -/
theorem wl_pc_ne' {l m : Nat → Nat} : ∀ n k, (∀ i, i < n → l i < 4) → (∀ i, i < k → m i < 4) → wl_pc l n = wl_pc m k → n = k
  | 0, 0, _, _, _ => rfl
  | 0, k + 1, _, _, e => absurd e (by show (0 : Nat) ≠ 4 * wl_pc m k + m k + 1; omega)
  | n + 1, 0, _, _, e => absurd e (by show 4 * wl_pc l n + l n + 1 ≠ (0 : Nat); omega)
  | n + 1, k + 1, h, g, e => by
    have e' : 4 * wl_pc l n + l n + 1 = 4 * wl_pc m k + m k + 1 := e
    have h1 := h n (by omega)
    have h2 := g k (by omega)
    rw [wl_pc_ne' n k (fun i hi => h i (by omega)) (fun i hi => g i (by omega)) (by omega)]
theorem wl_ring1 (s f a : Int32) : s + f + a = s + (f + a + 0) := by grind
theorem wl_ring2 (s f a l : Int32) : s + f + l + a = s + (f + a + l) := by grind
section
variable {f1 f2 f3 f4 f5 f6 : Int32} {a1 a2 a3 a4 a5 a6 a7 a8 a9 a10 a11 : Nat → Int32} {φ b : Nat → Nat} {D K : Nat → Int32} {n : Nat}
theorem wl_spell {post : St2 → Prop} {a : Int32} {fr len : Nat} (h2 : fr + len ≤ 12) (h3 : len ≤ 5) (H : ∀ s6, (∀ j, j < len → s6 j = nI (wl_lt a (fr + j))) → post (f1, nI len, f3, f4, f5, f6, a1, a2, a3, a4, a5, s6, a7, a8, a9, a10, a11)) : wpL_spell post (f1, f2, f3, f4, f5, f6, a1, a2, a3, a4, a5, a6, a7, a8, a9, a10, a11) a (nI fr) (nI (fr + len)) := by
  have key : ∀ m j s6, j + m = len → (∀ i, i < j → s6 i = nI (wl_lt a (fr + i))) → wL_spell_7 post a (nI (fr + len)) (m + 1) (nI (fr + j)) f1 (nI j) f3 f4 f5 f6 a1 a2 a3 a4 a5 s6 a7 a8 a9 a10 a11 := by
    intro m
    induction m with
    | zero =>
      intro j s6 e hs
      have : j = len := by omega
      subst this
      exact pk_le (fr + j) (fr + j) (fun _ => H s6 hs) (fun z => absurd z (by omega))
    | succ m ih =>
      intro j s6 e hs
      refine pk_le (fr + len) (fr + j) (fun z => absurd z (by omega)) (fun _ => pk_le 12 (fr + j) (fun z => absurd z (by omega)) (fun _ => pk_lt j 5 (fun _ => And.intro (pk_in j 5 (by omega)) (nm_r (e' := upd s6 j (nI (wl_lt a (fr + j)))) (by rw [nI_clamp (by omega), wl_let a (by omega), wl_let3]) (nm_r (nI_1 j) (nm_r (nI_1 (fr + j)) (ih (j + 1) _ (by omega) (fun i hi => ?_)))))) (fun z => absurd z (by omega))))
      by_cases ei : i = j
      · rw [ei, pk_us]
      · rw [pk_un ei]
        exact hs i (by omega)
  exact ⟨len + 1, key len 0 a6 (by omega) (fun i hi => absurd hi (by omega))⟩
theorem wl_spell0 {post : St2 → Prop} {a : Int32} {len : Nat} (h3 : len ≤ 4) (H : ∀ s6, (∀ j, j < len → s6 j = nI (wl_lt a j)) → post (f1, nI len, f3, f4, f5, f6, a1, a2, a3, a4, a5, s6, a7, a8, a9, a10, a11)) : wpL_spell post (f1, f2, f3, f4, f5, f6, a1, a2, a3, a4, a5, a6, a7, a8, a9, a10, a11) a 0 (nI len) := by
  have h := wl_spell (post := post) (f1 := f1) (f2 := f2) (f3 := f3) (f4 := f4) (f5 := f5) (f6 := f6) (a1 := a1) (a2 := a2) (a3 := a3) (a4 := a4) (a5 := a5) (a6 := a6) (a7 := a7) (a8 := a8) (a9 := a9) (a10 := a10) (a11 := a11) (a := a) (fr := 0) (len := len) (by omega) (by omega) (fun s6 hs => H s6 (fun j hj => by rw [hs j hj, Nat.zero_add]))
  rw [Nat.zero_add] at h
  exact h
theorem wl_part {post : Int32 → Prop} {u : St0} {x a : Int32} {len : Nat} (hn : n ≤ 12) (hx : x.toBitVec.toNat < 2 ^ 31) (h1 : 1 ≤ len) (h4 : len ≤ 4) (H1 : post 1) (H0 : (∀ p, p + len ≤ n → ¬ wl_pc (wl_lt a) len = wl_tc (wl_lt x) p len) → post 0) : wpL_part post u x (nI n) a (nI len) := by
  have key : ∀ m p, p + m = n → (∀ q, q < p → q + len ≤ n → ¬ wl_pc (wl_lt a) len = wl_tc (wl_lt x) q len) → wL_part_12 post x (nI n) a (nI len) (((1 : Int32) <<< ((2 * nI len) &&& 31)) - 1) (m + 1) (nI p) := by
    intro m
    induction m with
    | zero =>
      intro p e hp
      exact pk_lt n (p + len) (fun z => H0 (fun q hq => hp q (by omega) hq)) (fun z => absurd z (by omega)) rfl (nI_add p len)
    | succ m ih =>
      intro p e hp
      refine pk_lt n (p + len) (fun z => H0 (fun q hq => hp q (by omega) hq)) (fun z => br_c (fun _ => H1) (fun g => nm_r (nI_1 p) (ih (p + 1) (by omega) (fun q hq hq' => ?_)))) rfl (nI_add p len)
      by_cases eq : q = p
      · subst eq
        exact fun w => g (wl_in_text (by omega) hx h4 w)
      · exact hp q (by omega) hq'
  exact nm_e ⟨n + 1, key n 0 (by omega) (fun q hq => absurd hq (by omega))⟩
theorem wl_chosen {post : Int32 → St2 → Prop} {x : Int32} {lnk : Int64} (hR : wl_RD φ b D K a1 a2 a3 a4) (hn : n ≤ 12) (ht : ∀ i, i < n → wl_lt x i < 4 ∧ a7 i = nI (wl_lt x i)) (hP : wl_PF (wl_fc D (wl_lt x) n f1) (wl_kk D (wl_lt x) n) n a8) (hd : wl_DP (wl_fc D (wl_lt x) n f1) (wl_kk D (wl_lt x) n) n a8 a9 a10 a11) (hlk : wl_lk lnk a8)
    (H : ∀ g2 g5 g6 s6, post (a9 4) (f1, g2, nI n, 1, g5, g6, a1, a2, a3, a4, a5, s6, a7, a8, a9, a10, a11)) : wpL_chosen post (f1, f2, nI n, 1, f5, f6, a1, a2, a3, a4, a5, a6, a7, a8, a9, a10, a11) x (nI n) f1 lnk := by
  have g := wl_DP_good hP hd hn
  have ex : ∀ bf sum g2 g5 g6 s6, bf < 5 → sum + a9 (5 * n + bf) = a9 4 → wL_chosen_175 post (nI n) sum (nI n) f1 g2 (nI n) 1 g5 g6 a1 a2 a3 a4 a5 s6 a7 a8 a9 a10 a11 := by
    intro bf sum g2 g5 g6 s6 hb e
    rw [(hd.1 bf hb).1, Int32.add_zero] at e
    rw [e]
    exact br_t rfl (H g2 g5 g6 s6)
  have key : ∀ m p fr bf sum (x7 : Int32) g2 g5 g6 s6, p + m = 12 → wl_sw a11 (wl_kk D (wl_lt x) n) n p = (fr, bf) → ((x7 = -1 ∧ bf = 4) ∨ (x7 = nI bf ∧ bf < 4)) → sum + a9 (5 * fr + bf) = a9 4 →
      wL_chosen_12 post x (nI n) f1 lnk (m + 1) sum x7 (nI fr) (nI p) f1 g2 (nI n) 1 g5 g6 a1 a2 a3 a4 a5 s6 a7 a8 a9 a10 a11 := by
    intro m
    induction m with
    | zero =>
      intro p fr bf sum x7 g2 g5 g6 s6 e es hb hsum
      obtain ⟨fr', bf', es', hbf, hfr, hp⟩ := wl_sw_ok g p
      rw [es] at es'
      injection es' with e1 e2
      subst e1 e2
      have : fr = n := by omega
      subst this
      exact pk_le 12 p (fun _ => ex bf sum g2 g5 g6 s6 hbf hsum) (fun z => absurd z (by omega))
    | succ m ih =>
      intro p fr bf sum x7 g2 g5 g6 s6 e es hb hsum
      obtain ⟨fr', bf', es', hbf, hfr, hp⟩ := wl_sw_ok g p
      rw [es] at es'
      injection es' with e1 e2
      subst e1 e2
      refine pk_le 12 p (fun z => absurd z (by omega)) (fun _ => pk_le n fr (fun hge => ?_) (fun hlt => ?_))
      · have : fr = n := by omega
        subst this
        exact ex bf sum g2 g5 g6 s6 hbf hsum
      · obtain ⟨L, s1, s2, s3, s4, s5, s7, s8, s9⟩ := wl_sw_step g es hbf hlt
        have v0 := wl_sv_at es hlt
        have v1 := wl_sv_next es hlt
        rw [s1] at v1
        dsimp only at v1
        rw [s9] at hsum
        have hsub : nI (fr + L) - nI fr = nI L := by rw [pk_sub (by omega), Nat.add_sub_cancel_left]
        have c132 : ∀ fcv kd g2 g5 g6 s6, fcv = wl_fc D (wl_lt x) n f1 fr L → kd = wl_kk D (wl_lt x) n fr L → wL_chosen_132 post (wL_chosen_12 post x (nI n) f1 lnk (m + 1)) x (nI n) f1 lnk x7 (nI p) (nI (fr + L)) (nI kd) fcv sum f1 g2 (nI n) 1 g5 g6 a1 a2 a3 a4 a5 s6 a7 a8 a9 a10 a11 := by
          intro fcv kd g2 g5 g6 s6 ef ek
          subst ef ek
          unfold wl_way at hsum
          rcases hb with ⟨e7, e4⟩ | ⟨e7, e4⟩
          · rw [if_neg (by omega), ← wl_ring1] at hsum
            exact nm_e (br_t (by rw [e7]; decide) (nm_r (nI_1 p) (ih (p + 1) _ _ _ _ _ _ _ _ (by omega) s1 (Or.inr ⟨rfl, s8⟩) hsum)))
          · rw [if_pos e4, ← wl_ring2] at hsum
            refine nm_e (br_f (by rw [e7]; exact nI_pos (by omega)) (nm_r (e' := sum + wl_fc D (wl_lt x) n f1 fr L + a8 (4 * bf + wl_kk D (wl_lt x) n fr L)) ?_ (nm_r (nI_1 p) (ih (p + 1) _ _ _ _ _ _ _ _ (by omega) s1 (Or.inr ⟨rfl, s8⟩) hsum))))
            rw [e7, show (4 : Int32) * (4 * nI bf + nI (wl_kk D (wl_lt x) n fr L)) = nI (4 * (4 * bf + wl_kk D (wl_lt x) n fr L)) by rw [show (4 : Int32) = nI 4 from rfl, pk_mul, nI_add, pk_mul], (hlk _ (by omega)).2]
        rw [nI_1]
        refine wl_start hR hn ht g (by omega) (fun k5 k6 => wl_start hR hn ht g (by omega) (fun q5 q6 => ?_))
        rw [v0, v1]
        refine pk_eq fr fr (fun _ => pk_le (fr + L) fr (fun z => absurd z (by omega)) (fun _ => pk_lt n (fr + L) (fun z => absurd z (by omega)) (fun _ => ?_))) (fun z => absurd rfl z)
        rw [hsub]
        refine pk_le L 5 (fun _ => wl_spell (by omega) s4 (fun t6 ht6 => ?_)) (fun z => absurd z (by omega))
        refine wl_look hR (l := fun i => wl_lt x (fr + i)) s4 (fun i _ => wl_lt4 x _) ht6 ?_
        rcases hR.2.2.2 (wl_tc (wl_lt x) fr L) with eD | ⟨⟨c, hc, eD⟩, _, _, _⟩
        · obtain ⟨w1, w2⟩ := wl_fc_un (pen := f1) s5 eD
          have hL : L = 1 := by
            by_cases el : L = 1
            · exact el
            · rw [w1, if_neg el] at s7
              exact absurd (by decide) s7
          rw [if_pos hL] at w1
          rw [show wl_pc (fun i => wl_lt x (fr + i)) L = wl_tc (wl_lt x) fr L from rfl, eD]
          exact br_f (by decide) (br_f (by decide) (pk_le L 1 (fun _ => br_f (by decide) (c132 f1 3 _ _ _ _ w1.symm w2.symm)) (fun z => absurd z (by omega)) hsub))
        · obtain ⟨w1, w2⟩ := wl_fc_kn (pen := f1) s5 hc eD
          rw [show wl_pc (fun i => wl_lt x (fr + i)) L = wl_tc (wl_lt x) fr L from rfl, eD, show nI L - nI L / 3 * 3 = nI (L % 3) from pk_rem (d := 3) (by omega) (by omega) (by omega)]
          have hc0 : (0 : Int32) ≤ nI c := nI_pos' (by omega)
          exact br_t hc0 (And.intro (by decide) (br_t hc0 (br_t hc0 (c132 (nI c) (L % 3) _ _ _ _ w1.symm w2.symm))))
  exact ⟨13, key 12 0 0 4 0 (-1) f2 f5 f6 a6 (by omega) rfl (Or.inl ⟨rfl, rfl⟩) (Int32.zero_add _)⟩
end
end
section
/-! holds -/
section
variable {f1 f2 f3 f4 f5 f6 : Int32} {a1 a2 a3 a4 a5 a6 a7 a8 a9 a10 a11 : Nat → Int32} {φ b : Nat → Nat} {D K : Nat → Int32} {n : Nat}
theorem wl_holds {post : Int32 → St2 → Prop} {x a : Int32} {lnk : Int64} {q len : Nat} (h : wl_DI φ b D K a1 a2 a3 a4 a5) (hn : n ≤ 12) (hx : x.toBitVec.toNat < 4 ^ n) (ht : ∀ i, i < n → wl_lt x i < 4 ∧ a7 i = nI (wl_lt x i)) (hp : f1 = nI q) (hq : q ≤ 32) (hlk : wl_lk lnk a8) (hf : f4 = 0 ∨ (f4 = 1 ∧ wl_DP (wl_fc D (wl_lt x) n f1) (wl_kk D (wl_lt x) n) n a8 a9 a10 a11)) (h1 : 1 ≤ len) (h4 : len ≤ 4)
    (H : ∀ ψ b' E L g2 g4 g5 g6 s1 s2 s3 s4 s5 s6 s9 s10 s11, wl_DI ψ b' E L s1 s2 s3 s4 s5 → (g4 = 0 ∨ (g4 = 1 ∧ wl_DP (wl_fc E (wl_lt x) n f1) (wl_kk E (wl_lt x) n) n a8 s9 s10 s11)) → post 1 (f1, g2, nI n, g4, g5, g6, s1, s2, s3, s4, s5, s6, a7, a8, s9, s10, s11)) :
    wpL_holds post (f1, f2, nI n, f4, f5, f6, a1, a2, a3, a4, a5, a6, a7, a8, a9, a10, a11) x (nI n) f1 lnk a (nI len) := by
  have h8 : ∀ j, j < 16 → ∃ v, v ≤ 15 ∧ a8 j = nI v := fun j hj => (hlk j hj).1
  have hP := wl_PFD h.1 (t := wl_lt x) (n := n) hp hq h8
  have hx31 : x.toBitVec.toNat < 2 ^ 31 := by
    have := wl_p4 hn
    omega
  unfold wpL_holds
  refine wl_cost h.1 hn ht hP hf (fun g5 g6 s9 s10 s11 hd => ?_)
  refine wl_ways ?_
  refine wl_chosen h.1 hn ht hP hd hlk (fun g2 k5 k6 s6 => ?_)
  refine br_t rfl (br_t (wl_DP_ways hP hd hn) ?_)
  have g := wl_DP_good hP hd hn
  refine wl_part hn hx31 h1 h4 (br_f (by decide) (H φ b D K _ _ _ _ _ _ _ _ _ _ _ _ _ h (Or.inr ⟨rfl, hd⟩))) (fun hno => br_t rfl ?_)
  refine wl_start h.1 hn ht g (m := 1) (by omega) (fun q5 q6 => wl_start h.1 hn ht g (m := 2) (by omega) (fun r5 r6 => wl_spell0 h4 (fun t6 ht6 => And.intro (by decide) ?_)))
  obtain ⟨c, hc, ec⟩ := pk_andE (a >>> ((10 : Int32) &&& 31)) (m := 15) 4 (by decide)
  rw [ec, show nI len - nI len / 3 * 3 = nI (len % 3) from pk_rem (d := 3) (by omega) (by omega) (by omega)]
  refine wl_learn h h1 h4 (fun i _ => wl_lt4 a i) ht6 (by omega) (fun r ψ b' E L u1 u2 u3 u4 u5 v2 v4 hE hEq hv4 => ?_)
  have hP' := wl_PFD hE.1 (t := wl_lt x) (n := n) hp hq h8
  have hEt : ∀ p l, p + l ≤ n → E (wl_tc (wl_lt x) p l) = D (wl_tc (wl_lt x) p l) := by
    intro p l hpl
    refine hEq _ (fun e => ?_)
    have el : l = len := wl_pc_ne' (l := fun i => wl_lt x (p + i)) (m := wl_lt a) l len (fun i _ => wl_lt4 x _) (fun i _ => wl_lt4 a _) e
    subst el
    exact hno p hpl e.symm
  have hfc : ∀ p l, 1 ≤ l → wl_fc E (wl_lt x) n f1 p l = wl_fc D (wl_lt x) n f1 p l := by
    intro p l _
    unfold wl_fc
    by_cases hpl : p + l ≤ n
    · rw [if_pos hpl, if_pos hpl, hEt p l hpl]
    · rw [if_neg hpl, if_neg hpl]
  have hkk : ∀ p l, 1 ≤ l → ¬ wl_fc D (wl_lt x) n f1 p l < 0 → wl_kk E (wl_lt x) n p l = wl_kk D (wl_lt x) n p l := by
    intro p l _ _
    unfold wl_kk
    by_cases hpl : p + l ≤ n
    · rw [if_pos hpl, if_pos hpl, hEt p l hpl]
    · rw [if_neg hpl, if_neg hpl]
  refine wl_cost hE.1 hn ht hP' ?_ (fun w5 w6 y9 y10 y11 hd' => ?_)
  · rcases hv4 with e | ⟨e, eD⟩
    · exact Or.inl e
    · rw [eD]
      exact Or.inr ⟨e, hd⟩
  · have un := wl_uniq hP hd hd' hn hfc hkk n 0 (by omega)
    have g' := wl_DP_good hP' hd' hn
    have sv := wl_sv_same g (fun q k h2 h3 => (un q k (by omega) h2 h3).2.2) hkk
    obtain ⟨e9, e10, _⟩ := un 0 4 (by omega) (by omega) (by omega)
    refine br_t e9 (wl_ways (br_t e10 (wl_start hE.1 hn ht g' (m := 1) (by omega) (fun p5 p6 => br_t (sv 1) (wl_start hE.1 hn ht g' (m := 2) (by omega) (fun o5 o6 => br_t (sv 2) (H ψ b' E L _ _ _ _ _ _ _ _ _ _ _ _ _ hE (Or.inr ⟨rfl, hd'⟩))))))))
end
end
section
/-! the law's loop, the constructor, and the whole -/
section
variable {f1 f2 f3 f4 f5 f6 : Int32} {a1 a2 a3 a4 a5 a6 a7 a8 a9 a10 a11 : Nat → Int32} {φ b : Nat → Nat} {D K : Nat → Int32} {n : Nat}
def wl_INV (q : Nat) (x3 x4 : Int32) (x5 : Int64) (f1 f3 f4 : Int32) (a1 a2 a3 a4 a5 a7 a8 a9 a10 a11 : Nat → Int32) : Prop :=
  ∃ φ b D K n, x4 = nI n ∧ n ≤ 12 ∧ x3.toBitVec.toNat < 4 ^ n ∧ f1 = nI q ∧ f3 = nI n ∧ wl_DI φ b D K a1 a2 a3 a4 a5 ∧ (∀ i, i < n → wl_lt x3 i < 4 ∧ a7 i = nI (wl_lt x3 i)) ∧ wl_lk x5 a8 ∧ (f4 = 0 ∨ (f4 = 1 ∧ wl_DP (wl_fc D (wl_lt x3) n f1) (wl_kk D (wl_lt x3) n) n a8 a9 a10 a11))
theorem wl_same {φ b ψ b' : Nat → Nat} {D K E L a1 a2 a3 a4 a5 : Nat → Int32} {t : Nat → Nat} {pen g4 : Int32} {a8 : Nat → Int32} (h : f4 = 0 ∨ (f4 = 1 ∧ wl_DP (wl_fc D t n pen) (wl_kk D t n) n a8 a9 a10 a11)) (g : g4 = 0 ∨ (g4 = f4 ∧ E = D)) : g4 = 0 ∨ (g4 = 1 ∧ wl_DP (wl_fc E t n pen) (wl_kk E t n) n a8 a9 a10 a11) := by
  rcases g with g | ⟨g, e⟩
  · exact Or.inl g
  · rw [e, g]
    exact h
theorem wl_law31 {L : Nat} {xs : Nat → Int32} {q kc ks : Nat} (hL : L ≤ 260) (hq : q ≤ 32) : ∀ m i x3 x4 x5 f1 f2 f3 f4 f5 f6 a1 a2 a3 a4 a5 a6 a7 a8 a9 a10 a11, L ≤ i + m → i ≤ 300 → wl_INV q x3 x4 x5 f1 f3 f4 a1 a2 a3 a4 a5 a7 a8 a9 a10 a11 →
    wL_law_31 (fun r => r = 1) L xs (nI q) kc ks (m + 1) x3 x4 x5 (nI i) f1 f2 f3 f4 f5 f6 a1 a2 a3 a4 a5 a6 a7 a8 a9 a10 a11 := by
  intro m
  induction m with
  | zero =>
    intro i x3 x4 x5 f1 f2 f3 f4 f5 f6 a1 a2 a3 a4 a5 a6 a7 a8 a9 a10 a11 hi hi' _
    exact pk_lt L (i + 4) (fun _ => rfl) (fun z => absurd z (by omega)) rfl (nI_add i 4)
  | succ m ih =>
    intro i x3 x4 x5 f1 f2 f3 f4 f5 f6 a1 a2 a3 a4 a5 a6 a7 a8 a9 a10 a11 hi hi' hI
    obtain ⟨φ, b, D, K, n, e4, hn, hx, e1, e3, hD, ht, hlk, hf⟩ := hI
    subst e4 e3
    have e1' := e1
    subst e1'
    have go : ∀ x3 x4 x5 f1 f2 f3 f4 f5 f6 a1 a2 a3 a4 a5 a6 a7 a8 a9 a10 a11, i + 4 ≤ L → wl_INV q x3 x4 x5 f1 f3 f4 a1 a2 a3 a4 a5 a7 a8 a9 a10 a11 → ∀ y : Int32, y = nI i + 4 → wL_law_31 (fun r => r = 1) L xs (nI q) kc ks (m + 1) x3 x4 x5 y f1 f2 f3 f4 f5 f6 a1 a2 a3 a4 a5 a6 a7 a8 a9 a10 a11 := by
      intro x3 x4 x5 f1 f2 f3 f4 f5 f6 a1 a2 a3 a4 a5 a6 a7 a8 a9 a10 a11 h hI
      exact nm_r (nI_add i 4) (ih (i + 4) x3 x4 x5 f1 f2 f3 f4 f5 f6 a1 a2 a3 a4 a5 a6 a7 a8 a9 a10 a11 (by omega) (by omega) hI)
    refine pk_lt L (i + 4) (fun _ => rfl) (fun hle => And.intro (pk_in i L (by omega)) ?_) rfl (nI_add i 4)
    obtain ⟨k, hk, ek⟩ := pk_andE (xs (nI i).toNatClampNeg) (m := 15) 4 (by decide)
    obtain ⟨l0, hl0, el⟩ := pk_andE (xs (nI i + 2).toNatClampNeg) (m := 3) 2 (by decide)
    obtain ⟨c, hc, ec⟩ := pk_andE (xs (nI i + 3).toNatClampNeg) (m := 15) 4 (by decide)
    generalize xs (nI i + 1).toNatClampNeg = a
    refine nm_r ek (And.intro (pk_in (i + 1) L (by omega) (nI_add i 1)) (nm_e (And.intro (pk_in (i + 2) L (by omega) (nI_add i 2)) (nm_r (e' := nI (1 + l0)) (by rw [el]; exact nI_add 1 l0) (And.intro (pk_in (i + 3) L (by omega) (nI_add i 3)) (nm_r ec ?_))))))
    generalize hlen : 1 + l0 = len
    have h1 : 1 ≤ len := by omega
    have h4 : len ≤ 4 := by omega
    have hc15 : c ≤ 15 := by omega
    have e3 : nI len - nI len / 3 * 3 = nI (len % 3) := pk_rem (d := 3) (by omega) (by omega) (by omega)
    have H251 : wL_law_251 (fun r => r = 1) L xs (wL_law_31 (fun r => r = 1) L xs (nI q) kc ks (m + 1)) (nI q) x3 (nI n) x5 (nI i) a (nI len) kc ks (nI q) f2 (nI n) f4 f5 f6 a1 a2 a3 a4 a5 a6 a7 a8 a9 a10 a11 :=
      wl_holds hD hn hx ht rfl hq hlk hf h1 h4 (fun ψ b' E L g2 g4 g5 g6 s1 s2 s3 s4 s5 s6 s9 s10 s11 hE hf' => br_f (by decide) (go _ _ _ _ _ _ _ _ _ _ _ _ _ _ _ _ _ _ _ _ hle ⟨ψ, b', E, L, n, rfl, hn, hx, rfl, rfl, hE, ht, hlk, hf'⟩))
    refine pk_lt 5 k (fun h5 => pk_lt 9 k (fun h9 => pk_eq k 10 (fun h10 => ?_) (fun h10 => pk_eq k 11 (fun h11 => ?_) (fun h11 => pk_eq k 12 (fun h12 => pk_eq c 0 (fun hc0 => ?_) (fun _ => H251)) (fun _ => H251)))) (fun h9 => ?_)) (fun h5 => ?_)
    · -- link
      have ea : a &&& 15 = nI (a.toBitVec.toNat % 16) := pk_and a 4 (by decide)
      have ea3 : a &&& 3 = nI (a.toBitVec.toNat % 4) := pk_and a 2 (by decide)
      have ea2 : (a >>> ((2 : Int32) &&& 31)) &&& 3 = nI (a.toBitVec.toNat / 4 % 4) := by
        have := wl_let a (i := 1) (by omega)
        rw [show (2 * nI 1 : Int32) = 2 from by decide] at this
        rw [this]
        unfold wl_lt
        rw [Nat.pow_one]
      have ix : (4 : Int32) * nI (a.toBitVec.toNat / 4 % 4) + nI (a.toBitVec.toNat % 4) = nI (a.toBitVec.toNat % 16) := by
        rw [show (4 : Int32) = nI 4 from rfl, pk_mul, nI_add]
        congr 1
        omega
      have h16 : a.toBitVec.toNat % 16 < 16 := Nat.mod_lt _ (by decide)
      rw [ea, ea3, ea2]
      refine nm_r (e' := nI (4 * (a.toBitVec.toNat % 16))) (by rw [show (4 : Int32) = nI 4 from rfl, pk_mul]) ?_
      refine br_f (nI_pos (by omega)) (pk_lt 3 (a.toBitVec.toNat / 4 % 4) (fun z => absurd z (by omega)) (fun _ => br_f (nI_pos (by omega)) (pk_lt 3 (a.toBitVec.toNat % 4) (fun z => absurd z (by omega)) (fun _ => br_f (nI_pos (by omega)) (pk_le c 99 (fun _ => ?_) (fun z => absurd z (by omega)))))))
      rw [ix]
      have i1 := pk_in (x := nI (a.toBitVec.toNat % 16)) (a.toBitVec.toNat % 16) 16 h16
      rw [nI_clamp (show a.toBitVec.toNat % 16 < 2 ^ 31 by omega)]
      exact And.intro i1 (nm_e (And.intro i1 (nm_e (nm_e (go _ _ _ _ _ _ _ _ _ _ _ _ _ _ _ _ _ _ _ _ hle ⟨φ, b, D, K, n, rfl, hn, hx, rfl, rfl, hD, ht, wl_lk_put hlk h16 hc15, Or.inl rfl⟩)))))
    · -- forget
      exact wl_spell0 h4 (fun s6 hs6 => wl_forget hD h1 h4 (fun j _ => wl_lt4 a j) hs6 (fun r ψ b' E L s1 s2 s3 s4 s5 g2 g4 hE hg => go _ _ _ _ _ _ _ _ _ _ _ _ _ _ _ _ _ _ _ _ hle ⟨ψ, b', E, L, n, rfl, hn, hx, rfl, rfl, hE, ht, hlk, wl_same (φ := φ) (b := b) (ψ := ψ) (b' := b') (K := K) (L := L) (a1 := a1) (a2 := a2) (a3 := a3) (a4 := a4) (a5 := a5) hf hg⟩))
    · -- clearText
      exact go _ _ _ _ _ _ _ _ _ _ _ _ _ _ _ _ _ _ _ _ hle ⟨φ, b, D, K, 0, rfl, by omega, by decide, rfl, rfl, hD, fun i hi => absurd hi (by omega), hlk, Or.inl rfl⟩
    · -- type
      have ea3 : a &&& 3 = nI (a.toBitVec.toNat % 4) := pk_and a 2 (by decide)
      refine pk_lt n 12 (fun hlt => And.intro (pk_in n 12 hlt) ?_) (fun hge => br_t (by decide) (go _ _ _ _ _ _ _ _ _ _ _ _ _ _ _ _ _ _ _ _ hle ⟨φ, b, D, K, n, rfl, hn, hx, rfl, rfl, hD, ht, hlk, hf⟩))
      obtain ⟨X, eX, hX, hXi, hXn⟩ := wl_txt (x := x3) (a := a) hlt hx
      have hp13 := wl_p4 (show n + 1 ≤ 12 by omega)
      refine nm_r (e' := upd a7 n (nI (a.toBitVec.toNat % 4))) ?_ (nm_r (nI_1 n) (pk_le (n + 1) 0 (fun z => absurd z (by omega)) (fun _ => nm_r eX (nm_r (nI_1 n) (go _ _ _ _ _ _ _ _ _ _ _ _ _ _ _ _ _ _ _ _ hle ⟨φ, b, D, K, n + 1, rfl, by omega, ?_, rfl, rfl, hD, fun i hi => ⟨wl_lt4 _ _, ?_⟩, hlk, Or.inl rfl⟩)))))
      · rw [nI_clamp (by omega), ea3, pk_andN (by omega) 2 (by decide), show (2 : Nat) ^ 2 = 4 from rfl, Nat.mod_mod]
      · rw [pk_tn (by omega)]
        exact hX
      · by_cases ei : i = n
        · rw [ei, pk_us, hXn]
        · rw [pk_un ei, hXi i (by omega)]
          exact (ht i (by omega)).2
    · -- learn
      refine wl_spell0 h4 (fun s6 hs6 => And.intro (by decide) ?_)
      rw [e3]
      exact wl_learn hD h1 h4 (fun j _ => wl_lt4 a j) hs6 hc15 (fun r ψ b' E L s1 s2 s3 s4 s5 g2 g4 hE _ hg => go _ _ _ _ _ _ _ _ _ _ _ _ _ _ _ _ _ _ _ _ hle ⟨ψ, b', E, L, n, rfl, hn, hx, rfl, rfl, hE, ht, hlk, wl_same (φ := φ) (b := b) (ψ := ψ) (b' := b') (K := K) (L := L) (a1 := a1) (a2 := a2) (a3 := a3) (a4 := a4) (a5 := a5) hf hg⟩)
theorem wl_DI_0 {s2 s3 : Nat → Int32} (h2 : ∀ i, i < 512 → s2 i = -1) (h3 : ∀ i, i < 512 → s3 i = -1) : wl_DI (fun _ => 0) (fun _ => 0) (fun _ => -1) (fun _ => 0) (fun _ => 0) (upd s2 0 0) s3 (fun _ => 0) (fun _ => 0) := by
  have hN : ∀ x, wl_N (fun _ => -1) x = 0 := by
    intro x
    rcases Nat.eq_zero_or_pos (wl_N (fun _ => -1) x) with e | e
    · exact e
    · obtain ⟨w, _, hw, _⟩ := wl_N_ex e
      exact absurd hw (by decide)
  refine ⟨⟨⟨rfl, pk_us, fun x _ => ⟨rfl, show (0 : Nat) < 500 by omega⟩, fun x c _ h => absurd rfl h, fun i hi hi' => Or.inl ?_, fun y z h => absurd rfl h⟩, fun x _ => h3 0 (by omega), fun x _ => rfl, fun y => Or.inl rfl⟩, fun x _ => ?_, fun y h => absurd rfl h, ?_⟩
  · rw [pk_un (by omega)]
    exact h2 i hi'
  · dsimp only
    rw [hN]
    rfl
  · rw [hN]
    omega
theorem wl_init {post : St2 → Prop} {q : Nat} (h1 : 1 ≤ q) (hq : q ≤ 32) (H : ∀ s2 s3, (∀ i, i < 512 → s2 i = -1) → (∀ i, i < 512 → s3 i = -1) → post (nI q, 0, 0, 0, 0, 0, (fun _ => 0), upd s2 0 0, s3, (fun _ => 0), (fun _ => 0), (fun _ => 0), (fun _ => 0), (fun _ => 0), (fun _ => 0), (fun _ => 0), (fun _ => 0))) : wpX_init post 11 2788 (0, 0, 0, 0, 0, 0) (nI q) := by
  have key : ∀ m i s2 s3 kc ks, i + m = 512 → (∀ j, j < i → s2 j = -1) → (∀ j, j < i → s3 j = -1) → wX_init_123 post 11 2788 kc ks (nI q) 0 0 0 0 0 (m + 1) (nI i) (fun _ => 0) s2 s3 (fun _ => 0) (fun _ => 0) (fun _ => 0) (fun _ => 0) (fun _ => 0) (fun _ => 0) (fun _ => 0) (fun _ => 0) := by
    intro m
    induction m with
    | zero =>
      intro i s2 s3 kc ks e g2 g3
      have : i = 512 := by omega
      subst this
      exact pk_le 512 512 (fun _ => nm_e (H s2 s3 g2 g3)) (fun z => absurd z (by omega))
    | succ m ih =>
      intro i s2 s3 kc ks e g2 g3
      have i1 := pk_in (x := nI i) i 512 (by omega)
      have ei : (nI i).toNatClampNeg = i := nI_clamp (by omega)
      refine pk_le 512 i (fun z => absurd z (by omega)) (fun _ => And.intro i1 (nm_r (e' := upd s2 i (-1)) (by rw [ei]) (And.intro i1 (nm_r (e' := upd s3 i (-1)) (by rw [ei]) (nm_r (nI_1 i) (ih (i + 1) _ _ kc ks (by omega) (fun j hj => ?_) (fun j hj => ?_)))))))
      · by_cases ej : j = i
        · rw [ej, pk_us]
        · rw [pk_un ej]
          exact g2 j (by omega)
      · by_cases ej : j = i
        · rw [ej, pk_us]
        · rw [pk_un ej]
          exact g3 j (by omega)
  refine pk_le 1 q (fun _ => pk_le q 99 (fun _ => ?_) (fun z => absurd z (by omega))) (fun z => absurd z (by omega))
  unfold wX_init_26
  exact ⟨by omega, by omega, by omega, by omega, by omega, by omega, by omega, by omega, by omega, by omega, by omega, by omega, by omega, by omega, by omega, by omega, by omega, by omega, by omega, by omega, by omega, by omega, 513, key 512 0 _ _ _ _ (by omega) (fun j hj => absurd hj (by omega)) (fun j hj => absurd hj (by omega))⟩
theorem wl_cont {L : Nat} {xs : Nat → Int32} (hL : L ≤ 260) (r : Int32) : ∀ x1 : Int32, x1 = 1 + (r &&& 31) → ∃ mc ms : Nat, 1 + mc ≤ 12 ∧ 17 + ms ≤ 2805 ∧ (wpX_init (fun u => match u with | (f1, f2, f3, f4, f5, f6, a1, a2, a3, a4, a5, a6, a7, a8, a9, a10, a11) => (∃ fu31 : Nat, wL_law_31 (fun r => r = 1) L xs x1 (1 + mc) (17 + ms) fu31 0 0 0 1 f1 f2 f3 f4 f5 f6 a1 a2 a3 a4 a5 a6 a7 a8 a9 a10 a11)) mc ms (0, 0, 0, 0, 0, 0) x1) := by
  obtain ⟨j, hj, ej⟩ := pk_andE r (m := 31) 5 (by decide)
  refine nm_r (e' := nI (1 + j)) (by rw [ej]; exact nI_add 1 j) ⟨11, 2788, by omega, by omega, wl_init (by omega) (by omega) (fun s2 s3 h2 h3 => ⟨261, ?_⟩)⟩
  exact wl_law31 hL (by omega) 260 1 0 0 0 _ _ _ _ _ _ _ _ _ _ _ _ _ _ _ _ _ (by omega) (by omega) ⟨_, _, _, _, 0, rfl, by omega, by decide, rfl, rfl, wl_DI_0 h2 h3, fun i hi => absurd hi (by omega), wl_lk_0, Or.inl rfl⟩
end
theorem i_vc (xs : Nat → Int32) (L : Nat) (hL : L ≤ 260) : wpL_law (fun r => r = 1) L xs :=
  pk_le L 0 (fun _ => wl_cont hL 0) (fun h => And.intro (pk_in 0 L h) (wl_cont hL _))
end
