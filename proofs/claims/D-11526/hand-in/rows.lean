section
/-! ===== flags of free runs ===== -/
/-- 1 where a flag is set -/
def pr_c (x : Int32) : Nat := if x = 0 then 0 else 1
theorem pr_c0 {x : Int32} (h : x = 0) : pr_c x = 0 := if_pos h
theorem pr_c1 {x : Int32} (h : ¬ x = 0) : pr_c x = 1 := if_neg h
theorem pr_cz {x : Int32} (h : pr_c x = 0) : x = 0 := by
  by_cases e : x = 0
  · exact e
  · rw [pr_c1 e] at h
    exact absurd h (by decide)
/-- how many free runs cover frame g -/
def pr_cv (a : Nat → Int32) (g : Nat) : Nat := pr_c (a g) + pr_c (a (48 + g / 2 * 2)) + pr_c (a (96 + g / 4 * 4)) + pr_c (a (144 + g / 8 * 8))
theorem pr_o4 {o : Nat} (h : o ≤ 3) : o = 0 ∨ o = 1 ∨ o = 2 ∨ o = 3 := by omega
theorem pr_cv_in {a : Nat → Int32} {s o g : Nat} {v : Int32} (ho : o ≤ 3) (hs : s % 2 ^ o = 0) (hl : s + 2 ^ o ≤ 24) (h1 : s ≤ g) (h2 : g < s + 2 ^ o) : pr_cv (upd a (48 * o + s) v) g + pr_c (a (48 * o + s)) = pr_cv a g + pr_c v := by
  rcases pr_o4 ho with rfl | rfl | rfl | rfl
  · have e : g = 48 * 0 + s := by omega
    unfold pr_cv
    rw [← e, pk_us, pk_un (show 48 + g / 2 * 2 ≠ g by omega), pk_un (show 96 + g / 4 * 4 ≠ g by omega), pk_un (show 144 + g / 8 * 8 ≠ g by omega)]
    omega
  · have e : 48 + g / 2 * 2 = 48 * 1 + s := by omega
    unfold pr_cv
    rw [e, pk_us, pk_un (show g ≠ 48 * 1 + s by omega), pk_un (show 96 + g / 4 * 4 ≠ 48 * 1 + s by omega), pk_un (show 144 + g / 8 * 8 ≠ 48 * 1 + s by omega)]
    omega
  · have e : 96 + g / 4 * 4 = 48 * 2 + s := by omega
    unfold pr_cv
    rw [e, pk_us, pk_un (show g ≠ 48 * 2 + s by omega), pk_un (show 48 + g / 2 * 2 ≠ 48 * 2 + s by omega), pk_un (show 144 + g / 8 * 8 ≠ 48 * 2 + s by omega)]
    omega
  · have e : 144 + g / 8 * 8 = 48 * 3 + s := by omega
    unfold pr_cv
    rw [e, pk_us, pk_un (show g ≠ 48 * 3 + s by omega), pk_un (show 48 + g / 2 * 2 ≠ 48 * 3 + s by omega), pk_un (show 96 + g / 4 * 4 ≠ 48 * 3 + s by omega)]
    omega
theorem pr_cv_out {a : Nat → Int32} {s o g : Nat} {v : Int32} (ho : o ≤ 3) (hs : s % 2 ^ o = 0) (hl : s + 2 ^ o ≤ 24) (hg : g < 24) (h : ¬ (s ≤ g ∧ g < s + 2 ^ o)) : pr_cv (upd a (48 * o + s) v) g = pr_cv a g := by
  rcases pr_o4 ho with rfl | rfl | rfl | rfl
  · unfold pr_cv
    rw [pk_un (show g ≠ 48 * 0 + s by omega), pk_un (show 48 + g / 2 * 2 ≠ 48 * 0 + s by omega), pk_un (show 96 + g / 4 * 4 ≠ 48 * 0 + s by omega), pk_un (show 144 + g / 8 * 8 ≠ 48 * 0 + s by omega)]
  · unfold pr_cv
    rw [pk_un (show g ≠ 48 * 1 + s by omega), pk_un (show 48 + g / 2 * 2 ≠ 48 * 1 + s by omega), pk_un (show 96 + g / 4 * 4 ≠ 48 * 1 + s by omega), pk_un (show 144 + g / 8 * 8 ≠ 48 * 1 + s by omega)]
  · unfold pr_cv
    rw [pk_un (show g ≠ 48 * 2 + s by omega), pk_un (show 48 + g / 2 * 2 ≠ 48 * 2 + s by omega), pk_un (show 96 + g / 4 * 4 ≠ 48 * 2 + s by omega), pk_un (show 144 + g / 8 * 8 ≠ 48 * 2 + s by omega)]
  · unfold pr_cv
    rw [pk_un (show g ≠ 48 * 3 + s by omega), pk_un (show 48 + g / 2 * 2 ≠ 48 * 3 + s by omega), pk_un (show 96 + g / 4 * 4 ≠ 48 * 3 + s by omega), pk_un (show 144 + g / 8 * 8 ≠ 48 * 3 + s by omega)]
theorem pr_c_le {a : Nat → Int32} {s o g : Nat} (ho : o ≤ 3) (hs : s % 2 ^ o = 0) (h1 : s ≤ g) (h2 : g < s + 2 ^ o) : pr_c (a (48 * o + s)) ≤ pr_cv a g := by
  rcases pr_o4 ho with rfl | rfl | rfl | rfl
  · have e : 48 * 0 + s = g := by omega
    unfold pr_cv
    rw [e]
    omega
  · have e : 48 * 1 + s = 48 + g / 2 * 2 := by omega
    unfold pr_cv
    rw [e]
    omega
  · have e : 48 * 2 + s = 96 + g / 4 * 4 := by omega
    unfold pr_cv
    rw [e]
    omega
  · have e : 48 * 3 + s = 144 + g / 8 * 8 := by omega
    unfold pr_cv
    rw [e]
    omega
/-- the run of 2^o frames at s is carved out: elsewhere the runs cover as t says, in it nothing covers and t is 1 -/
def pr_K (t : Nat → Nat) (s o : Nat) (a : Nat → Int32) : Prop := s % 2 ^ o = 0 ∧ s + 2 ^ o ≤ 24 ∧ ∀ g, g < 24 → (s ≤ g ∧ g < s + 2 ^ o → pr_cv a g = 0 ∧ t g = 1) ∧ (¬ (s ≤ g ∧ g < s + 2 ^ o) → pr_cv a g = t g)
theorem pr_K_take {a : Nat → Int32} {s o : Nat} (ho : o ≤ 3) (hs : s % 2 ^ o = 0) (hl : s + 2 ^ o ≤ 24) (hc : ∀ g, g < 24 → pr_cv a g ≤ 1) (hn : ¬ a (48 * o + s) = 0) : pr_K (pr_cv a) s o (upd a (48 * o + s) 0) := by
  refine ⟨hs, hl, fun g hg => ⟨fun hi => ?_, fun hi => pr_cv_out ho hs hl hg hi⟩⟩
  have e1 := pr_cv_in (a := a) (v := 0) ho hs hl hi.1 hi.2
  have e2 := pr_c_le (a := a) ho hs hi.1 hi.2
  have e3 := hc g hg
  rw [pr_c1 hn, pr_c0 rfl] at e1
  rw [pr_c1 hn] at e2
  omega
theorem pr_K_split {t : Nat → Nat} {a : Nat → Int32} {s m : Nat} (hm : m ≤ 2) (h : pr_K t s (m + 1) a) : pr_K t s m (upd a (48 * m + (s + 2 ^ m)) 1) := by
  obtain ⟨hs, hl, hg⟩ := h
  have k1 : (s + 2 ^ m) % 2 ^ m = 0 ∧ (s + 2 ^ m) + 2 ^ m ≤ 24 ∧ s % 2 ^ m = 0 ∧ 2 ^ (m + 1) = 2 * 2 ^ m ∧ 1 ≤ 2 ^ m := by
    have : m = 0 ∨ m = 1 ∨ m = 2 := by omega
    rcases this with rfl | rfl | rfl <;> (refine ⟨?_, ?_, ?_, ?_, ?_⟩ <;> omega)
  obtain ⟨k1, k2, k3, k4, k5⟩ := k1
  rw [k4] at hg
  refine ⟨k3, by omega, fun g hg' => ?_⟩
  obtain ⟨g1, g2⟩ := hg g hg'
  by_cases hi : s + 2 ^ m ≤ g ∧ g < s + 2 ^ m + 2 ^ m
  · have e1 := pr_cv_in (a := a) (v := 1) (show m ≤ 3 by omega) k1 k2 hi.1 hi.2
    have e2 := pr_c_le (a := a) (show m ≤ 3 by omega) k1 hi.1 hi.2
    rw [pr_c1 (x := 1) (by decide)] at e1
    obtain ⟨g3, g4⟩ := g1 (by omega)
    exact ⟨fun z => absurd z (by omega), fun _ => by omega⟩
  · have e1 := pr_cv_out (a := a) (v := 1) (show m ≤ 3 by omega) k1 k2 hg' hi
    rw [e1]
    exact ⟨fun z => g1 (by omega), fun z => g2 (by omega)⟩
theorem pr_K_give {t : Nat → Nat} {a : Nat → Int32} {s o : Nat} (ho : o ≤ 3) (h : pr_K t s o a) : ∀ g, g < 24 → pr_cv (upd a (48 * o + s) 1) g = t g := by
  obtain ⟨hs, hl, hg⟩ := h
  intro g hg'
  obtain ⟨g1, g2⟩ := hg g hg'
  by_cases hi : s ≤ g ∧ g < s + 2 ^ o
  · have e1 := pr_cv_in (a := a) (v := 1) ho hs hl hi.1 hi.2
    have e2 := pr_c_le (a := a) ho hs hi.1 hi.2
    rw [pr_c1 (x := 1) (by decide)] at e1
    obtain ⟨g3, g4⟩ := g1 hi
    omega
  · rw [pr_cv_out ho hs hl hg' hi]
    exact g2 hi
/-- the neighbour run -/
def pr_tw (s o : Nat) : Nat := if s / 2 ^ o % 2 = 0 then s + 2 ^ o else s - 2 ^ o
theorem pr_tw_x : ∀ o, o < 3 → ∀ s, s < 24 → nI s ^^^ ((1 : Int32) <<< (nI o &&& 31)) = nI (pr_tw s o) := by decide +kernel
theorem pr_shl : ∀ o, o < 4 → (1 : Int32) <<< (nI o &&& 31) = nI (2 ^ o) := by decide +kernel
theorem pr_tw_e {s o : Nat} (ho : o < 3) (hs : s % 2 ^ o = 0) (hl : s + 2 ^ o ≤ 24) : (pr_tw s o) % 2 ^ o = 0 ∧ pr_tw s o + 2 ^ o ≤ 24 ∧ min s (pr_tw s o) % 2 ^ (o + 1) = 0 ∧ min s (pr_tw s o) + 2 ^ (o + 1) ≤ 24 ∧ (pr_tw s o = s + 2 ^ o ∨ s = pr_tw s o + 2 ^ o) ∧ 2 ^ (o + 1) = 2 * 2 ^ o ∧ 1 ≤ 2 ^ o := by
  have : o = 0 ∨ o = 1 ∨ o = 2 := by omega
  unfold pr_tw
  rcases this with rfl | rfl | rfl
  · by_cases e : s / 2 ^ 0 % 2 = 0
    · rw [if_pos e]
      refine ⟨?_, ?_, ?_, ?_, ?_, ?_, ?_⟩ <;> omega
    · rw [if_neg e]
      refine ⟨?_, ?_, ?_, ?_, ?_, ?_, ?_⟩ <;> omega
  · by_cases e : s / 2 ^ 1 % 2 = 0
    · rw [if_pos e]
      refine ⟨?_, ?_, ?_, ?_, ?_, ?_, ?_⟩ <;> omega
    · rw [if_neg e]
      refine ⟨?_, ?_, ?_, ?_, ?_, ?_, ?_⟩ <;> omega
  · by_cases e : s / 2 ^ 2 % 2 = 0
    · rw [if_pos e]
      refine ⟨?_, ?_, ?_, ?_, ?_, ?_, ?_⟩ <;> omega
    · rw [if_neg e]
      refine ⟨?_, ?_, ?_, ?_, ?_, ?_, ?_⟩ <;> omega
theorem pr_K_join {t : Nat → Nat} {a : Nat → Int32} {s o : Nat} (ho : o < 3) (ht : ∀ g, g < 24 → t g ≤ 1) (h : pr_K t s o a) (hn : ¬ a (48 * o + pr_tw s o) = 0) : pr_K t (min s (pr_tw s o)) (o + 1) (upd a (48 * o + pr_tw s o) 0) := by
  obtain ⟨hs, hl, hg⟩ := h
  obtain ⟨k1, k2, k3, k4, k5, k6, k7⟩ := pr_tw_e ho hs hl
  generalize pr_tw s o = w at *
  refine ⟨k3, k4, fun g hg' => ?_⟩
  rw [k6]
  obtain ⟨g1, g2⟩ := hg g hg'
  have g3 := ht g hg'
  by_cases hi : w ≤ g ∧ g < w + 2 ^ o
  · have e1 := pr_cv_in (a := a) (v := 0) (show o ≤ 3 by omega) k1 k2 hi.1 hi.2
    have e2 := pr_c_le (a := a) (show o ≤ 3 by omega) k1 hi.1 hi.2
    rw [pr_c1 hn, pr_c0 rfl] at e1
    rw [pr_c1 hn] at e2
    have e3 := g2 (by omega)
    exact ⟨fun _ => by omega, fun z => absurd z (by omega)⟩
  · rw [pr_cv_out (a := a) (v := 0) (show o ≤ 3 by omega) k1 k2 hg' hi]
    exact ⟨fun z => g1 (by omega), fun z => g2 (by omega)⟩
/-- the start of a give-back -/
theorem pr_K_start {a : Nat → Int32} {s o : Nat} (hs : s % 2 ^ o = 0) (hl : s + 2 ^ o ≤ 24) (h : ∀ g, s ≤ g → g < s + 2 ^ o → pr_cv a g = 0) : pr_K (fun g => if s ≤ g ∧ g < s + 2 ^ o then 1 else pr_cv a g) s o a :=
  ⟨hs, hl, fun g hg => ⟨fun z => ⟨h g z.1 z.2, if_pos z⟩, fun z => (if_neg z).symm⟩⟩
/-! ===== pages held, by four bits a block ===== -/
def pr_hb (a b c d : Bool) : Int32 := (if a then 1 else 0) + (if b then 2 else 0) + (if c then 4 else 0) + (if d then 8 else 0)
def pr_bt (M : Nat → Bool) (b : Nat) : Int32 := pr_hb (M (4 * b)) (M (4 * b + 1)) (M (4 * b + 2)) (M (4 * b + 3))
def pr_set (M : Nat → Bool) (p : Nat) (v : Bool) : Nat → Bool := fun j => if j = p then v else M j
theorem pr_set_s {M : Nat → Bool} {p : Nat} {v : Bool} : pr_set M p v p = v := if_pos rfl
theorem pr_set_n {M : Nat → Bool} {p j : Nat} {v : Bool} (h : j ≠ p) : pr_set M p v j = M j := if_neg h
theorem pr_hb0 : ∀ a b c d : Bool, ((pr_hb a b c d >>> (nI 0 &&& 31)) &&& 1) = (if a then 1 else 0) ∧ pr_hb a b c d ||| ((1 : Int32) <<< (nI 0 &&& 31)) = pr_hb true b c d ∧ pr_hb a b c d &&& (((1 : Int32) <<< (nI 0 &&& 31)) ^^^ (-1)) = pr_hb false b c d := by decide +kernel
theorem pr_hb1 : ∀ a b c d : Bool, ((pr_hb a b c d >>> (nI 1 &&& 31)) &&& 1) = (if b then 1 else 0) ∧ pr_hb a b c d ||| ((1 : Int32) <<< (nI 1 &&& 31)) = pr_hb a true c d ∧ pr_hb a b c d &&& (((1 : Int32) <<< (nI 1 &&& 31)) ^^^ (-1)) = pr_hb a false c d := by decide +kernel
theorem pr_hb2 : ∀ a b c d : Bool, ((pr_hb a b c d >>> (nI 2 &&& 31)) &&& 1) = (if c then 1 else 0) ∧ pr_hb a b c d ||| ((1 : Int32) <<< (nI 2 &&& 31)) = pr_hb a b true d ∧ pr_hb a b c d &&& (((1 : Int32) <<< (nI 2 &&& 31)) ^^^ (-1)) = pr_hb a b false d := by decide +kernel
theorem pr_hb3 : ∀ a b c d : Bool, ((pr_hb a b c d >>> (nI 3 &&& 31)) &&& 1) = (if d then 1 else 0) ∧ pr_hb a b c d ||| ((1 : Int32) <<< (nI 3 &&& 31)) = pr_hb a b c true ∧ pr_hb a b c d &&& (((1 : Int32) <<< (nI 3 &&& 31)) ^^^ (-1)) = pr_hb a b c false := by decide +kernel
theorem pr_hb15 : ∀ a b c d : Bool, pr_hb a b c d = 15 ↔ (a = true ∧ b = true ∧ c = true ∧ d = true) := by decide +kernel
theorem pr_hbz : ∀ a b c d : Bool, pr_hb a b c d = 0 ↔ (a = false ∧ b = false ∧ c = false ∧ d = false) := by decide +kernel
theorem pr_bt_k {M : Nat → Bool} {b k : Nat} (hk : k < 4) : ((pr_bt M b >>> (nI k &&& 31)) &&& 1) = (if M (4 * b + k) then 1 else 0) ∧ pr_bt M b ||| ((1 : Int32) <<< (nI k &&& 31)) = pr_bt (pr_set M (4 * b + k) true) b ∧ pr_bt M b &&& (((1 : Int32) <<< (nI k &&& 31)) ^^^ (-1)) = pr_bt (pr_set M (4 * b + k) false) b := by
  have : k = 0 ∨ k = 1 ∨ k = 2 ∨ k = 3 := by omega
  unfold pr_bt
  rcases this with rfl | rfl | rfl | rfl
  · rw [Nat.add_zero (4 * b), pr_set_s, pr_set_s, pr_set_n (show 4 * b + 1 ≠ 4 * b by omega), pr_set_n (show 4 * b + 2 ≠ 4 * b by omega), pr_set_n (show 4 * b + 3 ≠ 4 * b by omega), pr_set_n (show 4 * b + 1 ≠ 4 * b by omega), pr_set_n (show 4 * b + 2 ≠ 4 * b by omega), pr_set_n (show 4 * b + 3 ≠ 4 * b by omega)]
    exact pr_hb0 _ _ _ _
  · rw [pr_set_s, pr_set_s, pr_set_n (show 4 * b ≠ 4 * b + 1 by omega), pr_set_n (show 4 * b + 2 ≠ 4 * b + 1 by omega), pr_set_n (show 4 * b + 3 ≠ 4 * b + 1 by omega), pr_set_n (show 4 * b ≠ 4 * b + 1 by omega), pr_set_n (show 4 * b + 2 ≠ 4 * b + 1 by omega), pr_set_n (show 4 * b + 3 ≠ 4 * b + 1 by omega)]
    exact pr_hb1 _ _ _ _
  · rw [pr_set_s, pr_set_s, pr_set_n (show 4 * b ≠ 4 * b + 2 by omega), pr_set_n (show 4 * b + 1 ≠ 4 * b + 2 by omega), pr_set_n (show 4 * b + 3 ≠ 4 * b + 2 by omega), pr_set_n (show 4 * b ≠ 4 * b + 2 by omega), pr_set_n (show 4 * b + 1 ≠ 4 * b + 2 by omega), pr_set_n (show 4 * b + 3 ≠ 4 * b + 2 by omega)]
    exact pr_hb2 _ _ _ _
  · rw [pr_set_s, pr_set_s, pr_set_n (show 4 * b ≠ 4 * b + 3 by omega), pr_set_n (show 4 * b + 1 ≠ 4 * b + 3 by omega), pr_set_n (show 4 * b + 2 ≠ 4 * b + 3 by omega), pr_set_n (show 4 * b ≠ 4 * b + 3 by omega), pr_set_n (show 4 * b + 1 ≠ 4 * b + 3 by omega), pr_set_n (show 4 * b + 2 ≠ 4 * b + 3 by omega)]
    exact pr_hb3 _ _ _ _
theorem pr_bt_n {M : Nat → Bool} {b p : Nat} {v : Bool} (h : p / 4 ≠ b) : pr_bt (pr_set M p v) b = pr_bt M b := by
  unfold pr_bt
  rw [pr_set_n (show 4 * b ≠ p by omega), pr_set_n (show 4 * b + 1 ≠ p by omega), pr_set_n (show 4 * b + 2 ≠ p by omega), pr_set_n (show 4 * b + 3 ≠ p by omega)]
theorem pr_bt15 {M : Nat → Bool} {b : Nat} : pr_bt M b = 15 ↔ ∀ k, k < 4 → M (4 * b + k) = true := by
  unfold pr_bt
  rw [pr_hb15]
  constructor
  · intro h k hk
    have : k = 0 ∨ k = 1 ∨ k = 2 ∨ k = 3 := by omega
    rcases this with rfl | rfl | rfl | rfl
    · exact h.1
    · exact h.2.1
    · exact h.2.2.1
    · exact h.2.2.2
  · intro h
    exact ⟨h 0 (by omega), h 1 (by omega), h 2 (by omega), h 3 (by omega)⟩
theorem pr_btz {M : Nat → Bool} {b : Nat} : pr_bt M b = 0 ↔ ∀ k, k < 4 → M (4 * b + k) = false := by
  unfold pr_bt
  rw [pr_hbz]
  constructor
  · intro h k hk
    have : k = 0 ∨ k = 1 ∨ k = 2 ∨ k = 3 := by omega
    rcases this with rfl | rfl | rfl | rfl
    · exact h.1
    · exact h.2.1
    · exact h.2.2.1
    · exact h.2.2.2
  · intro h
    exact ⟨h 0 (by omega), h 1 (by omega), h 2 (by omega), h 3 (by omega)⟩
/-- how many pages below n are mapped -/
def pr_cnt (M : Nat → Bool) : Nat → Nat
  | 0 => 0
  | n + 1 => pr_cnt M n + (if M n then 1 else 0)
theorem pr_cnt_le (M : Nat → Bool) (n : Nat) : pr_cnt M n ≤ n := by
  induction n with
  | zero => exact Nat.le_refl 0
  | succ n ih =>
    show pr_cnt M n + (if M n then 1 else 0) ≤ n + 1
    by_cases e : M n = true
    · rw [if_pos e]
      omega
    · rw [if_neg e]
      omega
theorem pr_cnt_hi {M : Nat → Bool} {p : Nat} {v : Bool} (n : Nat) (h : n ≤ p) : pr_cnt (pr_set M p v) n = pr_cnt M n := by
  induction n with
  | zero => rfl
  | succ n ih =>
    show pr_cnt (pr_set M p v) n + (if pr_set M p v n then 1 else 0) = pr_cnt M n + (if M n then 1 else 0)
    rw [ih (by omega), pr_set_n (show n ≠ p by omega)]
theorem pr_cnt_t {M : Nat → Bool} {p : Nat} (hp : M p = false) (n : Nat) (h : p < n) : pr_cnt (pr_set M p true) n = pr_cnt M n + 1 := by
  induction n with
  | zero => exact absurd h (by omega)
  | succ n ih =>
    show pr_cnt (pr_set M p true) n + (if pr_set M p true n then 1 else 0) = pr_cnt M n + (if M n then 1 else 0) + 1
    by_cases e : n = p
    · rw [e, pr_set_s, hp, pr_cnt_hi p (Nat.le_refl p)]
      rfl
    · rw [pr_set_n e, ih (by omega)]
      omega
theorem pr_cnt_f {M : Nat → Bool} {p : Nat} (hp : M p = true) (n : Nat) (h : p < n) : pr_cnt (pr_set M p false) n + 1 = pr_cnt M n := by
  induction n with
  | zero => exact absurd h (by omega)
  | succ n ih =>
    show pr_cnt (pr_set M p false) n + (if pr_set M p false n then 1 else 0) + 1 = pr_cnt M n + (if M n then 1 else 0)
    by_cases e : n = p
    · rw [e, pr_set_s, hp, pr_cnt_hi p (Nat.le_refl p)]
      rfl
    · rw [pr_set_n e, ← ih (by omega)]
      omega
/-- k different mapped pages below n: at least k are mapped -/
theorem pr_pigeon {n : Nat} (k : Nat) : ∀ (M : Nat → Bool) (g : Nat → Nat), (∀ i, i < k → g i < n ∧ M (g i) = true) → (∀ i j, i < k → j < k → g i = g j → i = j) → k ≤ pr_cnt M n := by
  induction k with
  | zero => exact fun _ _ _ _ => Nat.zero_le _
  | succ k ih =>
    intro M g h1 h2
    obtain ⟨e1, e2⟩ := h1 k (by omega)
    have e3 := pr_cnt_f e2 n e1
    have e4 := ih (pr_set M (g k) false) g (fun i hi => ⟨(h1 i (by omega)).1, by
      rw [pr_set_n (fun z => absurd (h2 i k (by omega) (by omega) z) (by omega))]
      exact (h1 i (by omega)).2⟩) (fun i j hi hj z => h2 i j (by omega) (by omega) z)
    omega
/-! ===== small numbers ===== -/
theorem pr_ix (o f : Nat) : (48 : Int32) * nI o + nI f = nI (48 * o + f) := by
  show nI 48 * nI o + nI f = nI (48 * o + f)
  rw [pk_mul, nI_add]
theorem pr_i4 (b k : Nat) : (4 : Int32) * nI b + nI k = nI (4 * b + k) := by
  show nI 4 * nI b + nI k = nI (4 * b + k)
  rw [pk_mul, nI_add]
theorem pr_i40 (b : Nat) : (4 : Int32) * nI b = nI (4 * b) := by
  show nI 4 * nI b = nI (4 * b)
  rw [pk_mul]
theorem pr_sh2 {p : Nat} (h : p < 64) : nI p >>> ((2 : Int32) &&& 31) = nI (p / 4) := pk_shrN (by omega) _ 2 (by decide)
theorem pr_an3 {p : Nat} (h : p < 64) : nI p &&& 3 = nI (p % 4) := pk_andN (by omega) 2 (by decide)
theorem pr_m1 (x : Int32) : x + (-1) = x - 1 := (Int32.sub_eq_add_neg x 1).symm
theorem pr_dn : ∀ t, t < 4 → nI t - 1 < nI t := by decide +kernel
theorem pr_nn : ∀ t, t < 64 → ¬ nI t = (-1) := by decide +kernel
theorem pr_nar (x : Int32) : vp_nar .boolean x = 0 ∨ vp_nar .boolean x = 1 := by
  show x &&& 1 = 0 ∨ x &&& 1 = 1
  obtain ⟨j, hj, e⟩ := pk_andE x (m := 1) 1 (by decide)
  rw [e]
  have : j = 0 ∨ j = 1 := by omega
  rcases this with rfl | rfl
  · exact Or.inl rfl
  · exact Or.inr rfl
theorem pr_narE {x : Int32} (h : x = 0 ∨ x = 1) : narrow .boolean (.int x) = .int x := by
  rcases h with rfl | rfl
  · rfl
  · rfl
/-- a block's base: a run of four frames, or none -/
def pr_bs (j : Nat) : Int32 := if j < 6 then nI (4 * j) else -1
theorem pr_bs_y {j : Nat} (h : j < 6) : pr_bs j = nI (4 * j) := if_pos h
theorem pr_bs_n {j : Nat} (h : ¬ j < 6) : pr_bs j = -1 := if_neg h
theorem pr_bs_ne {j : Nat} (h : j < 6) : ¬ pr_bs j = -1 := by
  rw [pr_bs_y h]
  exact pr_nn _ (by omega)
end
section
section
variable {fc uc ck : Int32} {a1 a2 a3 a4 a5 a6 a7 a8 a9 : Nat → Int32}
theorem pr_split {post : St2 → Prop} {b : Nat → Nat} {f to : Nat} (ht : to ≤ 3) (H : ∀ a, pr_K b f to a → post (fc, uc, ck, a1, a, a3, a4, a5, a6, a7, a8, a9)) : ∀ d a, to + d ≤ 3 → pr_K b f (to + d) a → wX_split_5 post (nI f) (nI to) fc uc ck (d + 1) (nI (to + d) - 1) a1 a a3 a4 a5 a6 a7 a8 a9 := by
  intro d
  induction d with
  | zero =>
    intro a hd h
    exact br_t (pr_dn to (by omega)) (H a h)
  | succ d ih =>
    intro a hd h
    have hf := h.2.1
    have hk := pr_K_split (show to + d ≤ 2 by omega) h
    have hq : 2 ^ (to + d) ≤ 8 := Nat.pow_le_pow_right (n := 2) (by omega) (show to + d ≤ 3 by omega)
    have hx : ((48 : Int32) * nI (to + d) + nI f) + ((1 : Int32) <<< (nI (to + d) &&& 31)) = nI (48 * (to + d) + (f + 2 ^ (to + d))) := by
      rw [pr_ix, pr_shl _ (by omega), nI_add, Nat.add_assoc]
    have hp : f < 24 := by
      have : 1 ≤ 2 ^ (to + (d + 1)) := Nat.one_le_two_pow
      omega
    have e : nI (to + (d + 1)) - 1 = nI (to + d) := nI_pred _
    rw [e]
    refine pk_lt (to + d) to (fun z => absurd z (by omega)) (fun _ => ⟨pk_in (48 * (to + d) + (f + 2 ^ (to + d))) 192 (by omega) hx, ?_⟩)
    rw [hx, nI_clamp (by omega)]
    exact nm_e (nm_r (pr_m1 _) (ih _ (by omega) hk))
theorem pr_splitW {post : St2 → Prop} {b : Nat → Nat} {f o to : Nat} (h1 : to ≤ o) (h2 : o ≤ 3) (hk : pr_K b f o a2) (H : ∀ a, pr_K b f to a → post (fc, uc, ck, a1, a, a3, a4, a5, a6, a7, a8, a9)) : wpX_split post (fc, uc, ck, a1, a2, a3, a4, a5, a6, a7, a8, a9) (nI f) (nI o) (nI to) := by
  obtain ⟨d, rfl⟩ : ∃ d, o = to + d := ⟨o - to, by omega⟩
  exact fun x e => by
    rw [e]
    exact ⟨d + 1, pr_split (by omega) H d a2 h2 hk⟩
theorem pr_al9 {post : Int32 → St2 → Prop} {J : Int32 → Prop} {to o : Nat} (h1 : to ≤ o) (h2 : o ≤ 3) (hc : ∀ g, g < 24 → pr_cv a2 g ≤ 1)
    (H : ∀ f a, pr_K (pr_cv a2) f to a → post (nI f) (24, uc, ck, a1, a, a3, a4, a5, a6, a7, a8, a9))
    (HJ : (∀ j, 2 ^ o * j < 24 → a2 (48 * o + 2 ^ o * j) = 0) → J (nI (o + 1))) : ∃ n, wX_allocate_9 post J (nI to) (nI o) 24 uc ck a1 a2 a3 a4 a5 a6 a7 a8 a9 n 0 := by
  have hE : ∃ E, E ≤ 24 ∧ 2 ^ o * E = 24 ∧ (∀ i, i < E → 2 ^ o * i + 2 ^ o ≤ 24) ∧ (∀ i, 2 ^ o * i < 24 → i < E) := by
    rcases pr_o4 h2 with rfl | rfl | rfl | rfl
    · exact ⟨24, by omega, by omega, fun i hi => by omega, fun i hi => by omega⟩
    · exact ⟨12, by omega, by omega, fun i hi => by omega, fun i hi => by omega⟩
    · exact ⟨6, by omega, by omega, fun i hi => by omega, fun i hi => by omega⟩
    · exact ⟨3, by omega, by omega, fun i hi => by omega, fun i hi => by omega⟩
  obtain ⟨E, hE0, hE1, hE2, hE3⟩ := hE
  have L := pk_loop (σ := Unit) (fun n i _ => wX_allocate_9 post J (nI to) (nI o) 24 uc ck a1 a2 a3 a4 a5 a6 a7 a8 a9 n (nI (2 ^ o * i))) (fun i _ => ∀ j, j < i → a2 (48 * o + 2 ^ o * j) = 0) E 0 () (by omega) (fun j hj => absurd hj (by omega))
    (fun n _ h => pk_le 24 (2 ^ o * E) (fun _ => nm_r (nI_1 o) (HJ (fun j hj => h j (hE3 j hj)))) (fun z => absurd z (by omega)))
    (fun n i _ hi h hw => by
      have e1 := hE2 i hi
      have e0 : 1 ≤ 2 ^ o := Nat.one_le_two_pow
      have hx := pr_ix o (2 ^ o * i)
      show wX_allocate_9 post J (nI to) (nI o) 24 uc ck a1 a2 a3 a4 a5 a6 a7 a8 a9 (n + 1) (nI (2 ^ o * i))
      refine pk_le 24 (2 ^ o * i) (fun z => absurd z (by omega)) (fun _ => ⟨pk_in (48 * o + 2 ^ o * i) 192 (by omega) hx, ?_⟩)
      rw [hx, nI_clamp (by omega)]
      refine br_c (fun hz => ?_) (fun hz => ⟨pk_in (48 * o + 2 ^ o * i) 192 (by omega), nm_e ?_⟩)
      · refine nm_r (e' := nI (2 ^ o * (i + 1))) ?_ (hw () (lt_s h hz))
        rw [pr_shl o (by omega), nI_add, Nat.mul_succ]
      · exact pr_splitW h1 h2 (pr_K_take h2 (Nat.mul_mod_right _ _) e1 hc hz) (H (2 ^ o * i)))
  obtain ⟨n, hn⟩ := L
  have hn' : wX_allocate_9 post J (nI to) (nI o) 24 uc ck a1 a2 a3 a4 a5 a6 a7 a8 a9 n (nI (2 ^ o * 0)) := hn
  rw [Nat.mul_zero] at hn'
  exact ⟨n, hn'⟩
theorem pr_al {post : Int32 → St2 → Prop} {to : Nat} (ht : to ≤ 3) (hc : ∀ g, g < 24 → pr_cv a2 g ≤ 1)
    (H : ∀ f a, pr_K (pr_cv a2) f to a → post (nI f) (24, uc, ck, a1, a, a3, a4, a5, a6, a7, a8, a9))
    (HN : (∀ o, to ≤ o → o < 4 → ∀ j, 2 ^ o * j < 24 → a2 (48 * o + 2 ^ o * j) = 0) → post (-1) (24, uc, ck, a1, a2, a3, a4, a5, a6, a7, a8, a9)) :
    wpX_allocate post (24, uc, ck, a1, a2, a3, a4, a5, a6, a7, a8, a9) (nI to) :=
  pk_loop (σ := Unit) (fun n i _ => wX_allocate_2 post (nI to) 24 uc ck a1 a2 a3 a4 a5 a6 a7 a8 a9 n (nI i)) (fun i _ => to ≤ i ∧ ∀ o, to ≤ o → o < i → ∀ j, 2 ^ o * j < 24 → a2 (48 * o + 2 ^ o * j) = 0) 4 to () (by omega) ⟨Nat.le_refl _, fun o h1 h2 => absurd h1 (by omega)⟩
    (fun n _ h => pk_lt 3 4 (fun _ => HN h.2) (fun z => absurd z (by omega)))
    (fun n i _ hi h hw => pk_lt 3 i (fun z => absurd z (by omega)) (fun _ => pr_al9 h.1 (by omega) hc H (fun hz => hw () ⟨by omega, fun o h1 h2 => by
      by_cases e : o = i
      · rw [e]
        exact hz
      · exact h.2 o h1 (by omega)⟩)))
/-- no run at all: no frame is covered -/
theorem pr_none {a : Nat → Int32} (h : ∀ o, 0 ≤ o → o < 4 → ∀ j, 2 ^ o * j < 24 → a (48 * o + 2 ^ o * j) = 0) : ∀ g, g < 24 → pr_cv a g = 0 := by
  intro g hg
  have e0 := h 0 (by omega) (by omega) g (by omega)
  have e1 := h 1 (by omega) (by omega) (g / 2) (by omega)
  have e2 := h 2 (by omega) (by omega) (g / 4) (by omega)
  have e3 := h 3 (by omega) (by omega) (g / 8) (by omega)
  rw [show 48 * 0 + 2 ^ 0 * g = g by omega] at e0
  rw [show 48 * 1 + 2 ^ 1 * (g / 2) = 48 + g / 2 * 2 by omega] at e1
  rw [show 48 * 2 + 2 ^ 2 * (g / 4) = 96 + g / 4 * 4 by omega] at e2
  rw [show 48 * 3 + 2 ^ 3 * (g / 8) = 144 + g / 8 * 8 by omega] at e3
  unfold pr_cv
  rw [pr_c0 e0, pr_c0 e1, pr_c0 e2, pr_c0 e3]
theorem pr_gb83 {post : St2 → Prop} {t : Nat → Nat} {s o : Nat} (ho : o ≤ 3) (hk : pr_K t s o a2) (H : ∀ a, (∀ g, g < 24 → pr_cv a g = t g) → post (fc, uc, ck, a1, a, a3, a4, a5, a6, a7, a8, a9)) : wX_giveBack_83 post (nI s) (nI o) fc uc ck a1 a2 a3 a4 a5 a6 a7 a8 a9 := by
  have hf := hk.2.1
  have e0 : 1 ≤ 2 ^ o := Nat.one_le_two_pow
  have hx := pr_ix o s
  unfold wX_giveBack_83
  rw [hx, nI_clamp (by omega)]
  exact ⟨pk_in (48 * o + s) 192 (by omega), nm_e (H _ (pr_K_give ho hk))⟩
theorem pr_gb8 {post : St2 → Prop} {t : Nat → Nat} (ht : ∀ g, g < 24 → t g ≤ 1) (H : ∀ a, (∀ g, g < 24 → pr_cv a g = t g) → post (fc, uc, ck, a1, a, a3, a4, a5, a6, a7, a8, a9)) : ∀ d s o k a, o ≤ 3 → 3 - o < d → k ≤ o → pr_K t s o a → wX_giveBack_8 post fc uc ck d (nI s) (nI o) (nI k) a1 a a3 a4 a5 a6 a7 a8 a9 := by
  intro d
  induction d with
  | zero => exact fun s o k a _ h _ _ => absurd h (by omega)
  | succ d ih =>
    intro s o k a ho hd hk h
    have hf := h.2.1
    have e0 : 1 ≤ 2 ^ o := Nat.one_le_two_pow
    refine pk_le 3 k (fun _ => pr_gb83 ho h H) (fun _ => pk_le 3 o (fun _ => pr_gb83 ho h H) (fun ho' => nm_r (pr_tw_x o ho' s (by omega)) ?_))
    obtain ⟨k1, k2, k3, k4, k5, k6, k7⟩ := pr_tw_e ho' h.1 hf
    have hx := pr_ix o (pr_tw s o)
    rw [hx, nI_clamp (by omega)]
    refine ⟨pk_in (48 * o + pr_tw s o) 192 (by omega), br_c (fun hz => pr_gb83 ho h H) (fun hz => ⟨pk_in (48 * o + pr_tw s o) 192 (by omega), nm_e ?_⟩)⟩
    have hj := pr_K_join ho' ht h hz
    refine pk_le (pr_tw s o) s (fun z => nm_r (nI_1 o) (nm_r (nI_1 k) ?_)) (fun z => nm_r (nI_1 o) (nm_r (nI_1 k) ?_))
    · rw [Nat.min_eq_right z] at hj
      exact ih _ _ _ _ (by omega) (by omega) (by omega) hj
    · rw [Nat.min_eq_left (by omega)] at hj
      exact ih _ _ _ _ (by omega) (by omega) (by omega) hj
theorem pr_gb {post : St2 → Prop} {f o : Nat} (ho : o ≤ 3) (hs : f % 2 ^ o = 0) (hl : f + 2 ^ o ≤ 24) (hc : ∀ g, g < 24 → pr_cv a2 g ≤ 1) (hz : ∀ g, f ≤ g → g < f + 2 ^ o → pr_cv a2 g = 0)
    (H : ∀ a, (∀ g, g < 24 → pr_cv a g = if f ≤ g ∧ g < f + 2 ^ o then 1 else pr_cv a2 g) → post (fc, uc, ck, a1, a, a3, a4, a5, a6, a7, a8, a9)) :
    wpX_giveBack post (fc, uc, ck, a1, a2, a3, a4, a5, a6, a7, a8, a9) (nI f) (nI o) := by
  refine ⟨4, pr_gb8 (t := fun g => if f ≤ g ∧ g < f + 2 ^ o then 1 else pr_cv a2 g) (fun g hg => ?_) H 4 f o 0 a2 ho (by omega) (by omega) (pr_K_start hs hl hz)⟩
  show (if f ≤ g ∧ g < f + 2 ^ o then 1 else pr_cv a2 g) ≤ 1
  by_cases e : f ≤ g ∧ g < f + 2 ^ o
  · rw [if_pos e]
    exact Nat.le_refl 1
  · rw [if_neg e]
    exact hc g hg
/-! the second print of the same two methods -/
theorem pr_split2 {post : St2 → Prop} {b : Nat → Nat} {f to : Nat} (ht : to ≤ 3) (H : ∀ a, pr_K b f to a → post (fc, uc, ck, a1, a, a3, a4, a5, a6, a7, a8, a9)) : ∀ d a, to + d ≤ 3 → pr_K b f (to + d) a → wX_split_2_5 post (nI f) (nI to) fc uc ck (d + 1) (nI (to + d) - 1) a1 a a3 a4 a5 a6 a7 a8 a9 := by
  intro d
  induction d with
  | zero =>
    intro a hd h
    exact br_t (pr_dn to (by omega)) (H a h)
  | succ d ih =>
    intro a hd h
    have hf := h.2.1
    have hk := pr_K_split (show to + d ≤ 2 by omega) h
    have hq : 2 ^ (to + d) ≤ 8 := Nat.pow_le_pow_right (n := 2) (by omega) (show to + d ≤ 3 by omega)
    have hx : ((48 : Int32) * nI (to + d) + nI f) + ((1 : Int32) <<< (nI (to + d) &&& 31)) = nI (48 * (to + d) + (f + 2 ^ (to + d))) := by
      rw [pr_ix, pr_shl _ (by omega), nI_add, Nat.add_assoc]
    have hp : f < 24 := by
      have : 1 ≤ 2 ^ (to + (d + 1)) := Nat.one_le_two_pow
      omega
    have e : nI (to + (d + 1)) - 1 = nI (to + d) := nI_pred _
    rw [e]
    refine pk_lt (to + d) to (fun z => absurd z (by omega)) (fun _ => ⟨pk_in (48 * (to + d) + (f + 2 ^ (to + d))) 192 (by omega) hx, ?_⟩)
    rw [hx, nI_clamp (by omega)]
    exact nm_e (nm_r (pr_m1 _) (ih _ (by omega) hk))
theorem pr_splitW2 {post : St2 → Prop} {b : Nat → Nat} {f o to : Nat} (h1 : to ≤ o) (h2 : o ≤ 3) (hk : pr_K b f o a2) (H : ∀ a, pr_K b f to a → post (fc, uc, ck, a1, a, a3, a4, a5, a6, a7, a8, a9)) : wpX_split_2 post (fc, uc, ck, a1, a2, a3, a4, a5, a6, a7, a8, a9) (nI f) (nI o) (nI to) := by
  obtain ⟨d, rfl⟩ : ∃ d, o = to + d := ⟨o - to, by omega⟩
  exact fun x e => by
    rw [e]
    exact ⟨d + 1, pr_split2 (by omega) H d a2 h2 hk⟩
theorem pr_al92 {post : Int32 → St2 → Prop} {J : Int32 → Prop} {to o : Nat} (h1 : to ≤ o) (h2 : o ≤ 3) (hc : ∀ g, g < 24 → pr_cv a2 g ≤ 1)
    (H : ∀ f a, pr_K (pr_cv a2) f to a → post (nI f) (24, uc, ck, a1, a, a3, a4, a5, a6, a7, a8, a9))
    (HJ : (∀ j, 2 ^ o * j < 24 → a2 (48 * o + 2 ^ o * j) = 0) → J (nI (o + 1))) : ∃ n, wX_allocate_2_9 post J (nI to) (nI o) 24 uc ck a1 a2 a3 a4 a5 a6 a7 a8 a9 n 0 := by
  have hE : ∃ E, E ≤ 24 ∧ 2 ^ o * E = 24 ∧ (∀ i, i < E → 2 ^ o * i + 2 ^ o ≤ 24) ∧ (∀ i, 2 ^ o * i < 24 → i < E) := by
    rcases pr_o4 h2 with rfl | rfl | rfl | rfl
    · exact ⟨24, by omega, by omega, fun i hi => by omega, fun i hi => by omega⟩
    · exact ⟨12, by omega, by omega, fun i hi => by omega, fun i hi => by omega⟩
    · exact ⟨6, by omega, by omega, fun i hi => by omega, fun i hi => by omega⟩
    · exact ⟨3, by omega, by omega, fun i hi => by omega, fun i hi => by omega⟩
  obtain ⟨E, hE0, hE1, hE2, hE3⟩ := hE
  have L := pk_loop (σ := Unit) (fun n i _ => wX_allocate_2_9 post J (nI to) (nI o) 24 uc ck a1 a2 a3 a4 a5 a6 a7 a8 a9 n (nI (2 ^ o * i))) (fun i _ => ∀ j, j < i → a2 (48 * o + 2 ^ o * j) = 0) E 0 () (by omega) (fun j hj => absurd hj (by omega))
    (fun n _ h => pk_le 24 (2 ^ o * E) (fun _ => nm_r (nI_1 o) (HJ (fun j hj => h j (hE3 j hj)))) (fun z => absurd z (by omega)))
    (fun n i _ hi h hw => by
      have e1 := hE2 i hi
      have e0 : 1 ≤ 2 ^ o := Nat.one_le_two_pow
      have hx := pr_ix o (2 ^ o * i)
      show wX_allocate_2_9 post J (nI to) (nI o) 24 uc ck a1 a2 a3 a4 a5 a6 a7 a8 a9 (n + 1) (nI (2 ^ o * i))
      refine pk_le 24 (2 ^ o * i) (fun z => absurd z (by omega)) (fun _ => ⟨pk_in (48 * o + 2 ^ o * i) 192 (by omega) hx, ?_⟩)
      rw [hx, nI_clamp (by omega)]
      refine br_c (fun hz => ?_) (fun hz => ⟨pk_in (48 * o + 2 ^ o * i) 192 (by omega), nm_e ?_⟩)
      · refine nm_r (e' := nI (2 ^ o * (i + 1))) ?_ (hw () (lt_s h hz))
        rw [pr_shl o (by omega), nI_add, Nat.mul_succ]
      · exact pr_splitW2 h1 h2 (pr_K_take h2 (Nat.mul_mod_right _ _) e1 hc hz) (H (2 ^ o * i)))
  obtain ⟨n, hn⟩ := L
  have hn' : wX_allocate_2_9 post J (nI to) (nI o) 24 uc ck a1 a2 a3 a4 a5 a6 a7 a8 a9 n (nI (2 ^ o * 0)) := hn
  rw [Nat.mul_zero] at hn'
  exact ⟨n, hn'⟩
theorem pr_al2 {post : Int32 → St2 → Prop} {to : Nat} (ht : to ≤ 3) (hc : ∀ g, g < 24 → pr_cv a2 g ≤ 1)
    (H : ∀ f a, pr_K (pr_cv a2) f to a → post (nI f) (24, uc, ck, a1, a, a3, a4, a5, a6, a7, a8, a9))
    (HN : (∀ o, to ≤ o → o < 4 → ∀ j, 2 ^ o * j < 24 → a2 (48 * o + 2 ^ o * j) = 0) → post (-1) (24, uc, ck, a1, a2, a3, a4, a5, a6, a7, a8, a9)) :
    wpX_allocate_2 post (24, uc, ck, a1, a2, a3, a4, a5, a6, a7, a8, a9) (nI to) :=
  pk_loop (σ := Unit) (fun n i _ => wX_allocate_2_2 post (nI to) 24 uc ck a1 a2 a3 a4 a5 a6 a7 a8 a9 n (nI i)) (fun i _ => to ≤ i ∧ ∀ o, to ≤ o → o < i → ∀ j, 2 ^ o * j < 24 → a2 (48 * o + 2 ^ o * j) = 0) 4 to () (by omega) ⟨Nat.le_refl _, fun o h1 h2 => absurd h1 (by omega)⟩
    (fun n _ h => pk_lt 3 4 (fun _ => HN h.2) (fun z => absurd z (by omega)))
    (fun n i _ hi h hw => pk_lt 3 i (fun z => absurd z (by omega)) (fun _ => pr_al92 h.1 (by omega) hc H (fun hz => hw () ⟨by omega, fun o h1 h2 => by
      by_cases e : o = i
      · rw [e]
        exact hz
      · exact h.2 o h1 (by omega)⟩)))
end
end
section
/-- a page that owns a frame: mapped, or of a reserved block -/
def pr_lv (M : Nat → Bool) (B : Nat → Nat) (p : Nat) : Prop := M p = true ∨ B (p / 4) < 6
/-- who owns which frame. B: a block's run of four (none: 6); T: a page's frame; O: 0 for a free frame, else 1 + its page -/
def pr_G (M : Nat → Bool) (B T O : Nat → Nat) (a : Nat → Int32) : Prop :=
  (∀ p, p < 64 → pr_lv M B p → T p < 24 ∧ O (T p) = 1 + p) ∧
  (∀ f, f < 24 → O f ≠ 0 → ∃ p, p < 64 ∧ O f = 1 + p ∧ pr_lv M B p ∧ T p = f) ∧
  (∀ p, p < 64 → B (p / 4) < 6 → T p = 4 * B (p / 4) + p % 4) ∧
  (∀ f, f < 24 → pr_cv a f = if O f = 0 then 1 else 0)
def pr_put (f : Nat → Nat) (k x : Nat) : Nat → Nat := fun j => if j = k then x else f j
theorem pr_put_s {f : Nat → Nat} {k x : Nat} : pr_put f k x k = x := if_pos rfl
theorem pr_put_n {f : Nat → Nat} {k x j : Nat} (h : j ≠ k) : pr_put f k x j = f j := if_neg h
theorem pr_nt {x : Bool} (h : ¬ x = true) : x = false := by
  cases x
  · rfl
  · exact absurd rfl h
theorem pr_tf {x : Bool} (h : x = true) (h' : x = false) : False := by
  rw [h] at h'
  exact Bool.noConfusion h'
section
variable {M : Nat → Bool} {B T O : Nat → Nat} {a : Nat → Int32}
theorem pr_G_c1 (h : pr_G M B T O a) : ∀ g, g < 24 → pr_cv a g ≤ 1 := fun g hg => by
  rw [h.2.2.2 g hg]
  by_cases e : O g = 0
  · rw [if_pos e]
    exact Nat.le_refl 1
  · rw [if_neg e]
    exact Nat.zero_le 1
theorem pr_G_inj (h : pr_G M B T O a) {p q : Nat} (hp : p < 64) (hq : q < 64) (lp : pr_lv M B p) (lq : pr_lv M B q) (e : T p = T q) : p = q := by
  have e1 := (h.1 p hp lp).2
  have e2 := (h.1 q hq lq).2
  rw [e] at e1
  omega
theorem pr_G_own (h : pr_G M B T O a) {p : Nat} (hp : p < 64) (lp : pr_lv M B p) : pr_cv a (T p) = 0 := by
  obtain ⟨h1, h2⟩ := h.1 p hp lp
  rw [h.2.2.2 _ h1, if_neg (by omega)]
theorem pr_G_fr (h : pr_G M B T O a) {g : Nat} (hg : g < 24) (e : pr_cv a g = 1) : O g = 0 := by
  by_cases z : O g = 0
  · exact z
  · rw [h.2.2.2 g hg, if_neg z] at e
    exact absurd e (by decide)
theorem pr_G_M {M' : Nat → Bool} (h : pr_G M B T O a) (e : ∀ p, p < 64 → (pr_lv M' B p ↔ pr_lv M B p)) : pr_G M' B T O a :=
  ⟨fun p hp l => h.1 p hp ((e p hp).mp l), fun f hf z => by
    obtain ⟨p, h1, h2, h3, h4⟩ := h.2.1 f hf z
    exact ⟨p, h1, h2, (e p h1).mpr h3, h4⟩, h.2.2.1, h.2.2.2⟩
theorem pr_lv_set {v : Bool} {p q : Nat} (e : q ≠ p) : pr_lv (pr_set M p v) B q ↔ pr_lv M B q := by
  unfold pr_lv
  rw [pr_set_n e]
theorem pr_lv_put {b j q : Nat} (e : q / 4 ≠ b) : pr_lv M (pr_put B b j) q ↔ pr_lv M B q := by
  unfold pr_lv
  rw [pr_put_n e]
theorem pr_G_set {v : Bool} {p : Nat} (h : pr_G M B T O a) (hb : B (p / 4) < 6) : pr_G (pr_set M p v) B T O a := pr_G_M h (fun q hq => by
  by_cases e : q = p
  · rw [e]
    exact ⟨fun _ => Or.inr hb, fun _ => Or.inr hb⟩
  · exact pr_lv_set e)
/-- four frames are taken for block b -/
theorem pr_G_al4 {a' : Nat → Int32} {b f : Nat} (h : pr_G M B T O a) (hb : b < 16) (hB : ¬ B b < 6) (hM : ∀ k, k < 4 → M (4 * b + k) = false) (hk : pr_K (pr_cv a) f 2 a') : pr_G M (pr_put B b (f / 4)) (fun p => if p / 4 = b then f + p % 4 else T p) (fun g => if f ≤ g ∧ g < f + 4 then 1 + (4 * b + (g - f)) else O g) a' := by
  obtain ⟨hs, hl, hg⟩ := hk
  have hs' : f % 4 = 0 := hs
  have hl' : f + 4 ≤ 24 := hl
  have hg' : ∀ g, g < 24 → (f ≤ g ∧ g < f + 4 → pr_cv a' g = 0 ∧ pr_cv a g = 1) ∧ (¬ (f ≤ g ∧ g < f + 4) → pr_cv a' g = pr_cv a g) := hg
  have hnl : ∀ p, p / 4 = b → ¬ pr_lv M B p := fun p e l => by
    rcases l with l | l
    · have hm := hM (p % 4) (by omega)
      rw [show 4 * b + p % 4 = p by omega] at hm
      exact pr_tf l hm
    · rw [e] at l
      exact hB l
  refine ⟨fun p hp l => ?_, fun g hg2 z => ?_, fun p hp l => ?_, fun g hg2 => ?_⟩
  · show (if p / 4 = b then f + p % 4 else T p) < 24 ∧ (if f ≤ (if p / 4 = b then f + p % 4 else T p) ∧ (if p / 4 = b then f + p % 4 else T p) < f + 4 then 1 + (4 * b + ((if p / 4 = b then f + p % 4 else T p) - f)) else O (if p / 4 = b then f + p % 4 else T p)) = 1 + p
    by_cases e : p / 4 = b
    · rw [if_pos e, if_pos (by omega)]
      omega
    · rw [if_neg e]
      obtain ⟨h1, h2⟩ := h.1 p hp ((pr_lv_put e).mp l)
      have hi : ¬ (f ≤ T p ∧ T p < f + 4) := fun hi => by
        have := pr_G_fr h h1 ((hg' _ h1).1 hi).2
        omega
      rw [if_neg hi]
      exact ⟨h1, h2⟩
  · have z' : (if f ≤ g ∧ g < f + 4 then 1 + (4 * b + (g - f)) else O g) ≠ 0 := z
    show ∃ p, p < 64 ∧ (if f ≤ g ∧ g < f + 4 then 1 + (4 * b + (g - f)) else O g) = 1 + p ∧ pr_lv M (pr_put B b (f / 4)) p ∧ (if p / 4 = b then f + p % 4 else T p) = g
    by_cases e : f ≤ g ∧ g < f + 4
    · rw [if_pos e]
      refine ⟨4 * b + (g - f), by omega, rfl, Or.inr ?_, ?_⟩
      · rw [show (4 * b + (g - f)) / 4 = b by omega, pr_put_s]
        omega
      · rw [if_pos (by omega)]
        omega
    · rw [if_neg e] at z' ⊢
      obtain ⟨p, h1, h2, h3, h4⟩ := h.2.1 g hg2 z'
      have e2 : p / 4 ≠ b := fun e2 => hnl p e2 h3
      exact ⟨p, h1, h2, (pr_lv_put e2).mpr h3, by
        rw [if_neg e2]
        exact h4⟩
  · show (if p / 4 = b then f + p % 4 else T p) = 4 * pr_put B b (f / 4) (p / 4) + p % 4
    by_cases e : p / 4 = b
    · rw [if_pos e, e, pr_put_s]
      omega
    · rw [pr_put_n e] at l
      rw [if_neg e, pr_put_n e]
      exact h.2.2.1 p hp l
  · show pr_cv a' g = if (if f ≤ g ∧ g < f + 4 then 1 + (4 * b + (g - f)) else O g) = 0 then 1 else 0
    obtain ⟨g1, g2⟩ := hg' g hg2
    by_cases e : f ≤ g ∧ g < f + 4
    · rw [if_pos e, if_neg (by omega)]
      exact (g1 e).1
    · rw [if_neg e, g2 e]
      exact h.2.2.2 g hg2
/-- one frame is taken for page p -/
theorem pr_G_al1 {a' : Nat → Int32} {p f : Nat} (h : pr_G M B T O a) (hp : p < 64) (hM : M p = false) (hB : ¬ B (p / 4) < 6) (hk : pr_K (pr_cv a) f 0 a') : pr_G (pr_set M p true) B (pr_put T p f) (pr_put O f (1 + p)) a' := by
  obtain ⟨hs, hl, hg⟩ := hk
  have hl' : f + 1 ≤ 24 := hl
  have hg1 := (hg f (by omega)).1 ⟨Nat.le_refl f, show f < f + 1 by omega⟩
  have hg2 : ∀ g, g < 24 → g ≠ f → pr_cv a' g = pr_cv a g := fun g hg3 e => (hg g hg3).2 (fun z => by
    have z2 : g < f + 1 := z.2
    have z1 := z.1
    omega)
  have hof := pr_G_fr h (show f < 24 by omega) hg1.2
  have hnl : ¬ pr_lv M B p := fun l => by
    rcases l with l | l
    · exact pr_tf l hM
    · exact hB l
  refine ⟨fun q hq l => ?_, fun g hg3 z => ?_, fun q hq l => ?_, fun g hg3 => ?_⟩
  · by_cases e : q = p
    · rw [e, pr_put_s, pr_put_s]
      exact ⟨by omega, rfl⟩
    · obtain ⟨h1, h2⟩ := h.1 q hq ((pr_lv_set e).mp l)
      rw [pr_put_n e]
      refine ⟨h1, ?_⟩
      by_cases e2 : T q = f
      · rw [e2] at h2
        omega
      · rw [pr_put_n e2]
        exact h2
  · by_cases e : g = f
    · rw [e, pr_put_s]
      exact ⟨p, hp, rfl, Or.inl pr_set_s, pr_put_s⟩
    · rw [pr_put_n e] at z ⊢
      obtain ⟨q, h1, h2, h3, h4⟩ := h.2.1 g hg3 z
      have e2 : q ≠ p := fun e2 => hnl (e2 ▸ h3)
      exact ⟨q, h1, h2, (pr_lv_set e2).mpr h3, by
        rw [pr_put_n e2]
        exact h4⟩
  · by_cases e : q = p
    · rw [e] at l
      exact absurd l hB
    · rw [pr_put_n e]
      exact h.2.2.1 q hq l
  · by_cases e : g = f
    · rw [e, pr_put_s, if_neg (by omega)]
      exact hg1.1
    · rw [pr_put_n e, hg2 g hg3 e]
      exact h.2.2.2 g hg3
/-- a page's own frame is given back -/
theorem pr_G_fr1 {a' : Nat → Int32} {p : Nat} (h : pr_G M B T O a) (hp : p < 64) (hM : M p = true) (hB : ¬ B (p / 4) < 6) (ha : ∀ g, g < 24 → pr_cv a' g = if T p ≤ g ∧ g < T p + 2 ^ 0 then 1 else pr_cv a g) : pr_G (pr_set M p false) B T (pr_put O (T p) 0) a' := by
  have ha1 : pr_cv a' (T p) = 1 := by
    rw [ha (T p) (h.1 p hp (Or.inl hM)).1, if_pos ⟨Nat.le_refl _, show T p < T p + 1 by omega⟩]
  have ha2 : ∀ g, g < 24 → g ≠ T p → pr_cv a' g = pr_cv a g := fun g hg e => by
    rw [ha g hg, if_neg (fun z => by
      have z2 : g < T p + 1 := z.2
      have z1 := z.1
      omega)]
  have hnl : ∀ q, pr_lv (pr_set M p false) B q → q ≠ p := fun q l e => by
    rw [e] at l
    rcases l with l | l
    · rw [pr_set_s] at l
      exact Bool.noConfusion l
    · exact hB l
  refine ⟨fun q hq l => ?_, fun g hg z => ?_, h.2.2.1, fun g hg => ?_⟩
  · have e := hnl q l
    have l' := (pr_lv_set e).mp l
    obtain ⟨h1, h2⟩ := h.1 q hq l'
    rw [pr_put_n (fun z => e (pr_G_inj h hq hp l' (Or.inl hM) z))]
    exact ⟨h1, h2⟩
  · by_cases e : g = T p
    · rw [e, pr_put_s] at z
      exact absurd rfl z
    · rw [pr_put_n e] at z ⊢
      obtain ⟨q, h1, h2, h3, h4⟩ := h.2.1 g hg z
      have e2 : q ≠ p := fun e2 => e (by rw [← e2]; exact h4.symm)
      exact ⟨q, h1, h2, (pr_lv_set e2).mpr h3, h4⟩
  · by_cases e : g = T p
    · rw [e, pr_put_s, if_pos rfl]
      exact ha1
    · rw [pr_put_n e, ha2 g hg e]
      exact h.2.2.2 g hg
/-- a reservation is broken: its empty frames are given back -/
theorem pr_G_pre {a' : Nat → Int32} {b : Nat} (h : pr_G M B T O a) (hb : b < 16) (hB : B b < 6) (ha : ∀ g, g < 24 → pr_cv a' g = if 4 * B b ≤ g ∧ g < 4 * B b + 4 ∧ M (4 * b + (g - 4 * B b)) = false then 1 else pr_cv a g) : pr_G M (pr_put B b 6) T (fun g => if 4 * B b ≤ g ∧ g < 4 * B b + 4 ∧ M (4 * b + (g - 4 * B b)) = false then 0 else O g) a' := by
  refine ⟨fun p hp l => ?_, fun g hg z => ?_, fun p hp l => ?_, fun g hg => ?_⟩
  · show T p < 24 ∧ (if 4 * B b ≤ T p ∧ T p < 4 * B b + 4 ∧ M (4 * b + (T p - 4 * B b)) = false then 0 else O (T p)) = 1 + p
    by_cases e : p / 4 = b
    · have hm : M p = true := by
        rcases l with l | l
        · exact l
        · rw [e, pr_put_s] at l
          exact absurd l (by omega)
      obtain ⟨h1, h2⟩ := h.1 p hp (Or.inl hm)
      have h3 := h.2.2.1 p hp (by rw [e]; exact hB)
      rw [e] at h3
      rw [if_neg (fun z => by
        have z3 := z.2.2
        rw [show 4 * b + (T p - 4 * B b) = p by omega] at z3
        exact pr_tf hm z3)]
      exact ⟨h1, h2⟩
    · have l' := (pr_lv_put e).mp l
      obtain ⟨h1, h2⟩ := h.1 p hp l'
      rw [if_neg (fun z => by
        have h3 := h.2.2.1 (4 * b + (T p - 4 * B b)) (by omega) (by rw [show (4 * b + (T p - 4 * B b)) / 4 = b by omega]; exact hB)
        have hd : (4 * b + (T p - 4 * B b)) / 4 = b := by omega
        rw [hd] at h3
        have h4 := pr_G_inj h (p := 4 * b + (T p - 4 * B b)) (q := p) (by omega) hp (Or.inr (by rw [hd]; exact hB)) l' (by omega)
        omega)]
      exact ⟨h1, h2⟩
  · have z' : (if 4 * B b ≤ g ∧ g < 4 * B b + 4 ∧ M (4 * b + (g - 4 * B b)) = false then 0 else O g) ≠ 0 := z
    show ∃ p, p < 64 ∧ (if 4 * B b ≤ g ∧ g < 4 * B b + 4 ∧ M (4 * b + (g - 4 * B b)) = false then 0 else O g) = 1 + p ∧ pr_lv M (pr_put B b 6) p ∧ T p = g
    by_cases e : 4 * B b ≤ g ∧ g < 4 * B b + 4 ∧ M (4 * b + (g - 4 * B b)) = false
    · rw [if_pos e] at z'
      exact absurd rfl z'
    · rw [if_neg e] at z' ⊢
      obtain ⟨p, h1, h2, h3, h4⟩ := h.2.1 g hg z'
      refine ⟨p, h1, h2, ?_, h4⟩
      by_cases e2 : p / 4 = b
      · have h5 := h.2.2.1 p h1 (by rw [e2]; exact hB)
        rw [e2] at h5
        refine Or.inl ?_
        by_cases e3 : M p = true
        · exact e3
        · exact absurd ⟨by omega, by omega, by rw [show 4 * b + (g - 4 * B b) = p by omega]; exact pr_nt e3⟩ e
      · exact (pr_lv_put e2).mpr h3
  · by_cases e : p / 4 = b
    · rw [e, pr_put_s] at l
      exact absurd l (by omega)
    · rw [pr_put_n e] at l ⊢
      exact h.2.2.1 p hp l
  · show pr_cv a' g = if (if 4 * B b ≤ g ∧ g < 4 * B b + 4 ∧ M (4 * b + (g - 4 * B b)) = false then 0 else O g) = 0 then 1 else 0
    rw [ha g hg]
    by_cases e : 4 * B b ≤ g ∧ g < 4 * B b + 4 ∧ M (4 * b + (g - 4 * B b)) = false
    · rw [if_pos e, if_pos e, if_pos rfl]
    · rw [if_neg e, if_neg e]
      exact h.2.2.2 g hg
/-- no frame free, fewer pages mapped than frames: some reserved block has an empty frame -/
theorem pr_G_pg (h : pr_G M B T O a) (hz : ∀ g, g < 24 → pr_cv a g = 0) (hc : pr_cnt M 64 < 24) : ∃ p, p < 64 ∧ M p = false ∧ B (p / 4) < 6 := by
  apply Classical.byContradiction
  intro hn
  have k1 : ∀ g, g < 24 → O g ≠ 0 := fun g hg z => by
    have e := h.2.2.2 g hg
    rw [if_pos z, hz g hg] at e
    exact absurd e (by decide)
  have k2 : ∀ g, g < 24 → O g - 1 < 64 ∧ M (O g - 1) = true ∧ T (O g - 1) = g := fun g hg => by
    obtain ⟨p, h1, h2, h3, h4⟩ := h.2.1 g hg (k1 g hg)
    rw [show O g - 1 = p by omega]
    refine ⟨h1, ?_, h4⟩
    rcases h3 with l | l
    · exact l
    · by_cases e : M p = true
      · exact e
      · exact absurd ⟨p, h1, pr_nt e, l⟩ hn
  have k3 := pr_pigeon (n := 64) 24 M (fun g => O g - 1) (fun i hi => ⟨(k2 i hi).1, (k2 i hi).2.1⟩) (fun i j hi hj e => by
    have e' : O i - 1 = O j - 1 := e
    have e1 := (k2 i hi).2.2
    rw [e', (k2 j hj).2.2] at e1
    exact e1.symm)
  omega
end
/-! ===== the arrays against the picture ===== -/
def pr_A (M : Nat → Bool) (V : Nat → Int32) (B T : Nat → Nat) (a1 a3 a4 a5 a6 a7 a8 : Nat → Int32) : Prop :=
  (∀ b, b < 16 → a6 b = pr_bt M b) ∧
  (∀ b, b < 16 → a5 b = pr_bs (B b)) ∧
  (∀ b, b < 16 → ¬ a7 b = 0 → B b < 6 ∧ pr_bt M b = 15) ∧
  (∀ p, p < 64 → M p = true → a7 (p / 4) = 0 → a3 p = nI (T p)) ∧
  (∀ p, p < 64 → M p = true → a1 (T p) = V p) ∧
  (∀ p, p < 64 → a4 p = 0 ∨ a4 p = 1) ∧
  (∀ b, b < 16 → a8 b = 0 ∨ a8 b = 1)
/-- the state holds the picture: M says which pages are mapped, V what they hold -/
def pr_I (M : Nat → Bool) (V : Nat → Int32) (u : St2) : Prop := ∃ (B T O : Nat → Nat) (uc ck : Int32) (a1 a2 a3 a4 a5 a6 a7 a8 a9 : Nat → Int32), u = (24, uc, ck, a1, a2, a3, a4, a5, a6, a7, a8, a9) ∧ uc = nI (pr_cnt M 64) ∧ pr_G M B T O a2 ∧ pr_A M V B T a1 a3 a4 a5 a6 a7 a8 ∧ (∀ b, b < 16 → B b < 6 → ¬ pr_bt M b = 0)
end
section
section
variable {fc uc ck : Int32} {a1 a2 a3 a4 a5 a6 a7 a8 a9 : Nat → Int32} {M : Nat → Bool} {V : Nat → Int32} {B T O : Nat → Nat}
theorem pr_space0 {post : Int32 → Prop} (h : post 1) : wpX_isSpace post () 0 := br_t rfl h
theorem pr_space1 {post : Int32 → Prop} (h : post 1) : wpX_isSpace post () 1 := br_f (by decide) (br_t rfl h)
theorem pr_page {post : Int32 → Prop} {p : Nat} (hp : p < 32) (h : post 1) : wpX_isPage post () (nI p) :=
  pk_lt p 0 (fun z => absurd z (by omega)) (fun _ => pk_le 32 p (fun z => absurd z (by omega)) (fun _ => h))
theorem pr_range {post : Int32 → Prop} {p n : Nat} (h1 : 1 ≤ n) (h2 : p + n ≤ 32) (h : post 1) : wpX_isRange post () (nI p) (nI n) :=
  pk_lt n 1 (fun z => absurd z (by omega)) (fun _ => pk_lt 32 n (fun z => absurd z (by omega)) (fun _ => pk_lt p 0 (fun z => absurd z (by omega)) (fun _ => pk_lt (32 - n) p (fun z => absurd z (by omega)) (fun _ => h) (pk_sub (a := 32) (by omega)))))
theorem pr_has {post : Int32 → Prop} {u : St2} {p : Nat} (h : pr_I M V u) (hp : p < 64) (h1 : M p = true → post 1) (h0 : M p = false → post 0) : wpX_has post u (nI p) := by
  obtain ⟨B, T, O, uc, ck, a1, a2, a3, a4, a5, a6, a7, a8, a9, rfl, huc, hG, hA, h5⟩ := h
  have e := (pr_bt_k (M := M) (b := p / 4) (k := p % 4) (by omega)).1
  rw [show 4 * (p / 4) + p % 4 = p by omega] at e
  unfold wpX_has
  dsimp only
  rw [pr_sh2 hp, pr_an3 hp, nI_clamp (by omega), hA.1 _ (by omega), e]
  refine ⟨pk_in (p / 4) 16 (by omega), ?_⟩
  cases hm : M p
  · exact br_f (by decide) (h0 hm)
  · exact br_t (by decide) (h1 hm)
theorem pr_tr {post : Int32 → Prop} {p : Nat} (hG : pr_G M B T O a2) (hA : pr_A M V B T a1 a3 a4 a5 a6 a7 a8) (hp : p < 64) (hm : M p = true) (H : post (nI (T p))) : wpX_translate post (fc, uc, ck, a1, a2, a3, a4, a5, a6, a7, a8, a9) (nI p) := by
  refine nm_r (pr_sh2 hp) ?_
  rw [nI_clamp (by omega), nI_clamp (by omega), pr_an3 hp]
  refine ⟨pk_in (p / 4) 16 (by omega), br_c (fun e => ⟨pk_in p 64 hp, ?_⟩) (fun e => ⟨pk_in (p / 4) 16 (by omega), ?_⟩)⟩
  · rw [hA.2.2.2.1 p hp hm e]
    exact H
  · have hb := (hA.2.2.1 (p / 4) (by omega) e).1
    rw [hA.2.1 _ (by omega), pr_bs_y hb, nI_add, ← hG.2.2.1 p hp hb]
    exact H
theorem pr_content {post : Int32 → Prop} {u : St2} {p : Nat} (h : pr_I M V u) (hp : p < 64) (hm : M p = true) (H : post (V p)) : wpX_content post u (nI p) := by
  obtain ⟨B, T, O, uc, ck, a1, a2, a3, a4, a5, a6, a7, a8, a9, rfl, huc, hG, hA, h5⟩ := h
  have ht := (hG.1 p hp (Or.inl hm)).1
  unfold wpX_content
  dsimp only
  refine pr_tr hG hA hp hm ⟨pk_in (T p) 48 (by omega), ?_⟩
  rw [nI_clamp (by omega), hA.2.2.2.2.1 p hp hm]
  exact H
theorem pr_mayWrite {post : Int32 → Prop} {u : St2} {p : Nat} (h : pr_I M V u) (hp : p < 64) (H : ∀ w, post w) : wpX_mayWrite post u (nI p) := by
  obtain ⟨B, T, O, uc, ck, a1, a2, a3, a4, a5, a6, a7, a8, a9, rfl, huc, hG, hA, h5⟩ := h
  unfold wpX_mayWrite
  dsimp only
  rw [pr_sh2 hp, nI_clamp (by omega), nI_clamp (by omega)]
  exact ⟨pk_in (p / 4) 16 (by omega), br_c (fun _ => ⟨pk_in p 64 hp, pr_narE (hA.2.2.2.2.2.1 p hp), H _⟩) (fun _ => ⟨pk_in (p / 4) 16 (by omega), pr_narE (hA.2.2.2.2.2.2 _ (by omega)), H _⟩)⟩
theorem pr_use {post : St2 → Prop} {b : Nat} (hb : b < 16) (H : post (fc, uc, ck + 1, a1, a2, a3, a4, a5, a6, a7, a8, upd a9 b (ck + 1))) : wpX_use post (fc, uc, ck, a1, a2, a3, a4, a5, a6, a7, a8, a9) (nI b) := by
  refine nm_e ⟨pk_in b 16 hb, ?_⟩
  rw [nI_clamp (by omega)]
  exact nm_e H
theorem pr_A_val {p : Nat} {v : Int32} (hG : pr_G M B T O a2) (hA : pr_A M V B T a1 a3 a4 a5 a6 a7 a8) (hp : p < 64) (hm : M p = true) : pr_A M (upd V p v) B T (upd a1 (T p) v) a3 a4 a5 a6 a7 a8 := by
  refine ⟨hA.1, hA.2.1, hA.2.2.1, hA.2.2.2.1, fun q hq hn => ?_, hA.2.2.2.2.2.1, hA.2.2.2.2.2.2⟩
  by_cases e : q = p
  · rw [e, pk_us, pk_us]
  · rw [pk_un e, pk_un (fun z => e (pr_G_inj hG hq hp (Or.inl hn) (Or.inl hm) z))]
    exact hA.2.2.2.2.1 q hq hn
theorem pr_setContent {post : St2 → Prop} {u : St2} {p : Nat} {v : Int32} (h : pr_I M V u) (hp : p < 64) (hm : M p = true) (H : ∀ u', pr_I M (upd V p v) u' → post u') : wpX_setContent post u (nI p) v := by
  obtain ⟨B, T, O, uc, ck, a1, a2, a3, a4, a5, a6, a7, a8, a9, rfl, huc, hG, hA, h5⟩ := h
  have ht := (hG.1 p hp (Or.inl hm)).1
  unfold wpX_setContent
  dsimp only
  refine pr_tr hG hA hp hm ⟨pk_in (T p) 48 (by omega), ?_⟩
  rw [nI_clamp (by omega), pr_sh2 hp]
  refine nm_e (pr_use (by omega) (H _ ?_))
  exact ⟨B, T, O, uc, ck + 1, _, a2, a3, a4, a5, a6, a7, a8, _, rfl, huc, hG, pr_A_val hG hA hp hm, h5⟩
theorem pr_join89 {post : St2 → Prop} {b : Nat} (hb : b < 16) (H : ∀ a, (∀ p, p < 64 → p / 4 ≠ b → a p = a3 p) → post (fc, uc, ck, a1, a2, a, a4, a5, a6, a7, a8, a9)) : ∃ n, wX_joinUp_89 post (nI b) fc uc ck n 0 a1 a2 a3 a4 a5 a6 a7 a8 a9 :=
  pk_loop (fun n i s => wX_joinUp_89 post (nI b) fc uc ck n (nI i) a1 a2 s a4 a5 a6 a7 a8 a9) (fun i s => ∀ p, p < 64 → p / 4 ≠ b → s p = a3 p) 4 0 a3 (by omega) (fun p _ _ => rfl)
    (fun n s h => pk_le 4 4 (fun _ => H s h) (fun z => absurd z (by omega)))
    (fun n i s hi h hw => pk_le 4 i (fun z => absurd z (by omega)) (fun _ => ⟨pk_in (4 * b + i) 64 (by omega) (pr_i4 b i), nm_e (nm_r (nI_1 i) (hw _ (fun p hp e => by
      rw [pr_i4, nI_clamp (by omega), pk_un (by omega)]
      exact h p hp e)))⟩))
theorem pr_joinUp {post : St2 → Prop} {u : St2} {b : Nat} (h : pr_I M V u) (hb : b < 16) (H : ∀ u', pr_I M V u' → post u') : wpX_joinUp post u (nI b) := by
  have h' := h
  obtain ⟨B, T, O, uc, ck, a1, a2, a3, a4, a5, a6, a7, a8, a9, rfl, huc, hG, hA, h5⟩ := h
  unfold wpX_joinUp
  dsimp only
  rw [nI_clamp (by omega)]
  refine ⟨pk_in b 16 hb, br_c (fun _ => H _ h') (fun e5 => ⟨pk_in b 16 hb, br_c (fun e6 => ⟨pk_in b 16 hb, br_c (fun e7 => ?_) (fun _ => H _ h')⟩) (fun _ => H _ h')⟩)⟩
  have hB : B b < 6 := by
    by_cases e : B b < 6
    · exact e
    · rw [hA.2.1 b hb, pr_bs_n e] at e5
      exact absurd rfl e5
  rw [hA.1 b hb] at e6
  refine pk_loop (σ := Unit) (fun n i _ => wX_joinUp_33 post (nI b) 24 uc ck a1 a2 a3 a4 a5 a6 a7 a8 a9 n (nI i)) (fun _ _ => True) 4 1 () (by omega) trivial ?_ ?_
  · intro n _ _
    refine pk_le 4 4 (fun _ => ⟨pk_in b 16 hb, nm_e ⟨pk_in (4 * b) 64 (by omega) (pr_i40 b), pk_in b 16 hb, ?_⟩⟩) (fun z => absurd z (by omega))
    rw [nI_clamp (by omega)]
    refine nm_e (pr_join89 hb (fun a ha => H _ ⟨B, T, O, uc, ck, a1, a2, a, a4, a5, a6, _, _, a9, rfl, huc, hG, ⟨hA.1, hA.2.1, fun c hc => ?_, fun p hp hm => ?_, hA.2.2.2.2.1, hA.2.2.2.2.2.1, fun c hc => ?_⟩, h5⟩))
    · by_cases e : c = b
      · rw [e]
        exact fun _ => ⟨hB, e6⟩
      · rw [pk_un e]
        exact hA.2.2.1 c hc
    · by_cases e : p / 4 = b
      · rw [e, pk_us]
        exact fun z => absurd z (by decide)
      · rw [pk_un e, ha p hp e]
        exact hA.2.2.2.1 p hp hm
    · by_cases e : c = b
      · rw [e, pk_us]
        exact pr_nar _
      · rw [pk_un e]
        exact hA.2.2.2.2.2.2 c hc
  · intro n i _ hi _ hw
    exact pk_le 4 i (fun z => absurd z (by omega)) (fun _ => ⟨pk_in (4 * b + i) 64 (by omega) (pr_i4 b i), pk_in (4 * b) 64 (by omega) (pr_i40 b), br_c (fun _ => nm_r (nI_1 i) (hw () trivial)) (fun _ => H _ h')⟩)
theorem pr_breakUp {post : St2 → Prop} {b : Nat} (hG : pr_G M B T O a2) (hA : pr_A M V B T a1 a3 a4 a5 a6 a7 a8) (hb : b < 16) (H : ∀ a3' a4' a7', pr_A M V B T a1 a3' a4' a5 a6 a7' a8 → a7' b = 0 → post (fc, uc, ck, a1, a2, a3', a4', a5, a6, a7', a8, a9)) : wpX_breakUp post (fc, uc, ck, a1, a2, a3, a4, a5, a6, a7, a8, a9) (nI b) := by
  unfold wpX_breakUp
  dsimp only
  rw [nI_clamp (by omega)]
  refine ⟨pk_in b 16 hb, br_c (fun e => H _ _ _ hA e) (fun e => ?_)⟩
  obtain ⟨hB, h15⟩ := hA.2.2.1 b hb e
  refine pk_loop (σ := (Nat → Int32) × (Nat → Int32)) (fun n i s => wX_breakUp_12 post (nI b) fc uc ck n (nI i) a1 a2 s.1 s.2 a5 a6 a7 a8 a9) (fun i s => (∀ p, p < 64 → p / 4 ≠ b → s.1 p = a3 p) ∧ (∀ k, k < i → s.1 (4 * b + k) = nI (4 * B b + k)) ∧ (∀ p, p < 64 → s.2 p = 0 ∨ s.2 p = 1)) 4 0 (a3, a4) (by omega) ⟨fun p _ _ => rfl, fun k hk => absurd hk (by omega), hA.2.2.2.2.2.1⟩ ?_ ?_
  · intro n s h
    obtain ⟨s3, s4⟩ := s
    obtain ⟨i1, i2, i3⟩ := h
    refine pk_le 4 4 (fun _ => ⟨pk_in b 16 hb, ?_⟩) (fun z => absurd z (by omega))
    rw [nI_clamp (by omega)]
    refine nm_e (H _ _ _ ⟨hA.1, hA.2.1, fun c hc => ?_, fun p hp hm => ?_, hA.2.2.2.2.1, i3, hA.2.2.2.2.2.2⟩ pk_us)
    · by_cases e : c = b
      · rw [e, pk_us]
        exact fun z => absurd rfl z
      · rw [pk_un e]
        exact hA.2.2.1 c hc
    · by_cases e : p / 4 = b
      · intro _
        have i4 := i2 (p % 4) (by omega)
        have i5 := hG.2.2.1 p hp (by rw [e]; exact hB)
        rw [e] at i5
        rw [show 4 * b + p % 4 = p by omega, ← i5] at i4
        exact i4
      · rw [pk_un e]
        intro z
        have i4 := i1 p hp e
        rw [hA.2.2.2.1 p hp hm z] at i4
        exact i4
  · intro n i s hi h hw
    obtain ⟨s3, s4⟩ := s
    obtain ⟨i1, i2, i3⟩ := h
    have F : (∀ p, p < 64 → p / 4 ≠ b → upd s3 (4 * b + i) (nI (4 * B b + i)) p = a3 p) ∧ (∀ k, k < i + 1 → upd s3 (4 * b + i) (nI (4 * B b + i)) (4 * b + k) = nI (4 * B b + k)) ∧ (∀ p, p < 64 → upd s4 (4 * b + i) (vp_nar .boolean (a8 b)) p = 0 ∨ upd s4 (4 * b + i) (vp_nar .boolean (a8 b)) p = 1) := by
      refine ⟨fun p hp e => ?_, fun k hk => ?_, fun p hp => ?_⟩
      · rw [pk_un (by omega)]
        exact i1 p hp e
      · by_cases e : k = i
        · rw [e, pk_us]
        · rw [pk_un (by omega)]
          exact i2 k (by omega)
      · by_cases e : p = 4 * b + i
        · rw [e, pk_us]
          exact pr_nar _
        · rw [pk_un e]
          exact i3 p hp
    have W := hw (upd s3 (4 * b + i) (nI (4 * B b + i)), upd s4 (4 * b + i) (vp_nar .boolean (a8 b))) F
    refine pk_le 4 i (fun z => absurd z (by omega)) (fun _ => ⟨pk_in b 16 hb, pk_in (4 * b + i) 64 (by omega) (pr_i4 b i), ?_⟩)
    rw [pr_i4, nI_clamp (show 4 * b + i < 2 ^ 31 by omega), nI_clamp (show b < 2 ^ 31 by omega), hA.2.1 b hb, pr_bs_y hB, nI_add]
    exact nm_e ⟨pk_in b 16 hb, pk_in (4 * b + i) 64 (by omega), nm_e (nm_r (nI_1 i) W)⟩
theorem pr_set29 {post : St2 → Prop} {u : St2} {p b : Nat} {w : Int32} (hp : p < 64) (hb : b < 16) (h : pr_I M V (fc, uc, ck, a1, a2, a3, a4, a5, a6, a7, a8, a9)) (H : ∀ u', pr_I M V u' → post u') : wX_setWrite_29 post (nI p) w (nI b) fc uc ck a1 a2 a3 a4 a5 a6 a7 a8 a9 := by
  refine ⟨pk_in p 64 hp, ?_⟩
  rw [nI_clamp (by omega)]
  refine nm_e (pr_joinUp ?_ hb H)
  obtain ⟨B, T, O, uc', ck', b1, b2, b3, b4, b5, b6, b7, b8, b9, he, huc, hG, hA, h5⟩ := h
  injection he with e0 he
  injection he with e1 he
  injection he with e2 he
  injection he with e3 he
  injection he with e4 he
  injection he with e5 he
  injection he with e6 he
  injection he with e7 he
  injection he with e8 he
  injection he with e9 he
  injection he with e10 e11
  subst e0 e1 e2 e3 e4 e5 e6 e7 e8 e9 e10 e11
  refine ⟨B, T, O, _, _, _, _, _, _, _, _, _, _, _, rfl, huc, hG, ⟨hA.1, hA.2.1, hA.2.2.1, hA.2.2.2.1, hA.2.2.2.2.1, fun q hq => ?_, hA.2.2.2.2.2.2⟩, h5⟩
  by_cases e : q = p
  · rw [e, pk_us]
    exact pr_nar _
  · rw [pk_un e]
    exact hA.2.2.2.2.2.1 q hq
theorem pr_setWrite {post : St2 → Prop} {u : St2} {p : Nat} {w : Int32} (h : pr_I M V u) (hp : p < 64) (H : ∀ u', pr_I M V u' → post u') : wpX_setWrite post u (nI p) w := by
  have h' := h
  obtain ⟨B, T, O, uc, ck, a1, a2, a3, a4, a5, a6, a7, a8, a9, rfl, huc, hG, hA, h5⟩ := h
  unfold wpX_setWrite
  dsimp only
  refine nm_r (pr_sh2 hp) ?_
  rw [nI_clamp (by omega)]
  refine ⟨pk_in (p / 4) 16 (by omega), br_c (fun _ => pr_set29 (u := (24, uc, ck, a1, a2, a3, a4, a5, a6, a7, a8, a9)) hp (by omega) h' H) (fun _ => ⟨pk_in (p / 4) 16 (by omega), br_c (fun _ => H _ h') (fun _ => ?_)⟩)⟩
  refine pr_breakUp hG hA (by omega) (fun a3' a4' a7' hA' _ => ?_)
  exact pr_set29 (u := (24, uc, ck, a1, a2, a3, a4, a5, a6, a7, a8, a9)) hp (by omega) ⟨B, T, O, uc, ck, a1, a2, a3', a4', a5, a6, a7', a8, a9, rfl, huc, hG, hA', h5⟩ H
end
end
section
section
variable {fc uc ck : Int32} {a1 a2 a3 a4 a5 a6 a7 a8 a9 : Nat → Int32} {M : Nat → Bool} {V : Nat → Int32} {B T O : Nat → Nat}
theorem pr_A_T {T' : Nat → Nat} (hA : pr_A M V B T a1 a3 a4 a5 a6 a7 a8) (h : ∀ q, q < 64 → M q = true → T' q = T q) : pr_A M V B T' a1 a3 a4 a5 a6 a7 a8 :=
  ⟨hA.1, hA.2.1, hA.2.2.1, fun p hp hm z => by
    rw [h p hp hm]
    exact hA.2.2.2.1 p hp hm z, fun p hp hm => by
    rw [h p hp hm]
    exact hA.2.2.2.2.1 p hp hm, hA.2.2.2.2.2.1, hA.2.2.2.2.2.2⟩
theorem pr_A_pre {b : Nat} (hA : pr_A M V B T a1 a3 a4 a5 a6 a7 a8) (hb : ¬ pr_bt M b = 15) : pr_A M V (pr_put B b 6) T a1 a3 a4 (upd a5 b (-1)) a6 a7 a8 := by
  refine ⟨hA.1, fun c hc => ?_, fun c hc z => ?_, hA.2.2.2.1, hA.2.2.2.2.1, hA.2.2.2.2.2.1, hA.2.2.2.2.2.2⟩
  · by_cases e : c = b
    · rw [e, pk_us, pr_put_s, pr_bs_n (by omega)]
    · rw [pk_un e, pr_put_n e]
      exact hA.2.1 c hc
  · by_cases e : c = b
    · rw [e] at z hc
      exact absurd (hA.2.2.1 b hc z).2 hb
    · rw [pr_put_n e]
      exact hA.2.2.1 c hc z
theorem pr_A_none {b : Nat} (hA : pr_A M V B T a1 a3 a4 a5 a6 a7 a8) (hb : ¬ B b < 6) : pr_A M V B T a1 a3 a4 (upd a5 b (-1)) a6 a7 a8 := by
  refine ⟨hA.1, fun c hc => ?_, hA.2.2.1, hA.2.2.2.1, hA.2.2.2.2.1, hA.2.2.2.2.2.1, hA.2.2.2.2.2.2⟩
  by_cases e : c = b
  · rw [e, pk_us, pr_bs_n hb]
  · rw [pk_un e]
    exact hA.2.1 c hc
theorem pr_A_res {b f : Nat} (hA : pr_A M V B T a1 a3 a4 a5 a6 a7 a8) (hf : f % 4 = 0) (hf2 : f + 4 ≤ 24) (hM : ∀ k, k < 4 → M (4 * b + k) = false) : pr_A M V (pr_put B b (f / 4)) (fun p => if p / 4 = b then f + p % 4 else T p) a1 a3 a4 (upd a5 b (nI f)) a6 a7 a8 := by
  have hA2 : pr_A M V (pr_put B b (f / 4)) T a1 a3 a4 (upd a5 b (nI f)) a6 a7 a8 := by
    refine ⟨hA.1, fun c hc => ?_, fun c hc z => ?_, hA.2.2.2.1, hA.2.2.2.2.1, hA.2.2.2.2.2.1, hA.2.2.2.2.2.2⟩
    · by_cases e : c = b
      · rw [e, pk_us, pr_put_s, pr_bs_y (by omega), show 4 * (f / 4) = f by omega]
      · rw [pk_un e, pr_put_n e]
        exact hA.2.1 c hc
    · by_cases e : c = b
      · rw [e, pr_put_s]
        rw [e] at z hc
        exact ⟨by omega, (hA.2.2.1 b hc z).2⟩
      · rw [pr_put_n e]
        exact hA.2.2.1 c hc z
  refine pr_A_T hA2 (fun q hq hm => ?_)
  show (if q / 4 = b then f + q % 4 else T q) = T q
  rw [if_neg (fun e => by
    have h := hM (q % 4) (by omega)
    rw [show 4 * b + q % 4 = q by omega] at h
    exact pr_tf hm h)]
theorem pr_A_out {p : Nat} (hG : pr_G M B T O a2) (hA : pr_A M V B T a1 a3 a4 a5 a6 a7 a8) (hp : p < 64) (hm : M p = true) (h7 : a7 (p / 4) = 0) : pr_A (pr_set M p false) V B T (upd a1 (T p) 0) (upd a3 p (-1)) a4 a5 (upd a6 (p / 4) (pr_bt (pr_set M p false) (p / 4))) a7 a8 := by
  have hne : ∀ q, pr_set M p false q = true → q ≠ p ∧ M q = true := fun q hq => by
    by_cases e : q = p
    · rw [e, pr_set_s] at hq
      exact Bool.noConfusion hq
    · rw [pr_set_n e] at hq
      exact ⟨e, hq⟩
  refine ⟨fun c hc => ?_, hA.2.1, fun c hc z => ?_, fun q hq hn z => ?_, fun q hq hn => ?_, hA.2.2.2.2.2.1, hA.2.2.2.2.2.2⟩
  · by_cases e : c = p / 4
    · rw [e, pk_us]
    · rw [pk_un e, pr_bt_n (fun z => e z.symm)]
      exact hA.1 c hc
  · have e : c ≠ p / 4 := fun e => z (by rw [e]; exact h7)
    rw [pr_bt_n (fun z => e z.symm)]
    exact hA.2.2.1 c hc z
  · obtain ⟨e, hq2⟩ := hne q hn
    rw [pk_un e]
    exact hA.2.2.2.1 q hq hq2 z
  · obtain ⟨e, hq2⟩ := hne q hn
    rw [pk_un (fun z => e (pr_G_inj hG hq hp (Or.inl hq2) (Or.inl hm) z))]
    exact hA.2.2.2.2.1 q hq hq2
theorem pr_A_in {p : Nat} {v w : Int32} (hG : pr_G (pr_set M p true) B T O a2) (hA : pr_A M V B T a1 a3 a4 a5 a6 a7 a8) (hp : p < 64) (hm : M p = false) : pr_A (pr_set M p true) (upd V p v) B T (upd a1 (T p) v) (upd a3 p (nI (T p))) (upd a4 p (vp_nar .boolean w)) a5 (upd a6 (p / 4) (pr_bt (pr_set M p true) (p / 4))) a7 a8 := by
  have hne : ∀ q, q ≠ p → pr_set M p true q = true → M q = true := fun q e hq => by
    rw [pr_set_n e] at hq
    exact hq
  refine ⟨fun c hc => ?_, hA.2.1, fun c hc z => ?_, fun q hq hn z => ?_, fun q hq hn => ?_, fun q hq => ?_, hA.2.2.2.2.2.2⟩
  · by_cases e : c = p / 4
    · rw [e, pk_us]
    · rw [pk_un e, pr_bt_n (fun z => e z.symm)]
      exact hA.1 c hc
  · have h := hA.2.2.1 c hc z
    have e : c ≠ p / 4 := fun e => by
      have h2 := pr_bt15.mp h.2 (p % 4) (by omega)
      rw [e, show 4 * (p / 4) + p % 4 = p by omega] at h2
      exact pr_tf h2 hm
    rw [pr_bt_n (fun z => e z.symm)]
    exact h
  · by_cases e : q = p
    · rw [e, pk_us]
    · rw [pk_un e]
      exact hA.2.2.2.1 q hq (hne q e hn) z
  · by_cases e : q = p
    · rw [e, pk_us, pk_us]
    · rw [pk_un e, pk_un (fun z => e (pr_G_inj hG hq hp (Or.inl hn) (Or.inl pr_set_s) z))]
      exact hA.2.2.2.2.1 q hq (hne q e hn)
  · by_cases e : q = p
    · rw [e, pk_us]
      exact pr_nar _
    · rw [pk_un e]
      exact hA.2.2.2.2.2.1 q hq
theorem pr_pre67 {post : St2 → Prop} {b : Nat} (hG : pr_G M B T O a2) (hA : pr_A M V B T a1 a3 a4 a5 a6 a7 a8) (hb : b < 16) (hB : B b < 6)
    (H : ∀ a, (∀ g, g < 24 → pr_cv a g = if 4 * B b ≤ g ∧ g < 4 * B b + 4 ∧ M (4 * b + (g - 4 * B b)) = false then 1 else pr_cv a2 g) → post (fc, uc, ck, a1, a, a3, a4, upd a5 b (-1), a6, a7, a8, a9)) : ∃ n, wX_preempt_67 post (nI b) n 0 fc uc ck a1 a2 a3 a4 a5 a6 a7 a8 a9 := by
  refine pk_loop (fun n i s => wX_preempt_67 post (nI b) n (nI i) fc uc ck a1 s a3 a4 a5 a6 a7 a8 a9) (fun i s => ∀ g, g < 24 → pr_cv s g = if 4 * B b ≤ g ∧ g < 4 * B b + i ∧ M (4 * b + (g - 4 * B b)) = false then 1 else pr_cv a2 g) 4 0 a2 (by omega) (fun g hg => by rw [if_neg (by omega)]) ?_ ?_
  · intro n s h
    refine pk_le 4 4 (fun _ => ⟨pk_in b 16 hb, ?_⟩) (fun z => absurd z (by omega))
    rw [nI_clamp (by omega)]
    exact nm_e (H s h)
  · intro n i s hi h hw
    have e := (pr_bt_k (M := M) (b := b) (k := i) hi).1
    refine pk_le 4 i (fun z => absurd z (by omega)) (fun _ => ⟨pk_in b 16 hb, ?_⟩)
    rw [nI_clamp (by omega), hA.1 b hb, e, hA.2.1 b hb, pr_bs_y hB, nI_add]
    cases hm : M (4 * b + i)
    · refine br_t (by decide) ⟨pk_in b 16 hb, ?_⟩
      have hd : (4 * b + i) / 4 = b := by omega
      have hz : pr_cv s (4 * B b + i) = 0 := by
        rw [h _ (by omega), if_neg (by omega)]
        have ht := hG.2.2.1 (4 * b + i) (by omega) (by rw [hd]; exact hB)
        have ho := pr_G_own hG (p := 4 * b + i) (by omega) (Or.inr (by rw [hd]; exact hB))
        rw [hd, show (4 * b + i) % 4 = i by omega] at ht
        rw [ht] at ho
        exact ho
      refine pr_gb (o := 0) (by omega) (Nat.mod_one _) (show 4 * B b + i + 1 ≤ 24 by omega) (fun g hg => ?_) (fun g h1 h2 => ?_) (fun a ha => nm_r (nI_1 i) (hw a (fun g hg => ?_)))
      · rw [h g hg]
        by_cases z : 4 * B b ≤ g ∧ g < 4 * B b + i ∧ M (4 * b + (g - 4 * B b)) = false
        · rw [if_pos z]
          exact Nat.le_refl 1
        · rw [if_neg z]
          exact pr_G_c1 hG g hg
      · have h2' : g < 4 * B b + i + 1 := h2
        rw [show g = 4 * B b + i by omega]
        exact hz
      · rw [ha g hg, h g hg]
        by_cases z : g = 4 * B b + i
        · rw [if_pos ⟨by omega, show g < 4 * B b + i + 1 by omega⟩, if_pos ⟨by omega, by omega, by rw [show 4 * b + (g - 4 * B b) = 4 * b + i by omega]; exact hm⟩]
        · rw [if_neg (fun y => by
            have y2 : g < 4 * B b + i + 1 := y.2
            have y1 := y.1
            omega)]
          by_cases y : 4 * B b ≤ g ∧ g < 4 * B b + i ∧ M (4 * b + (g - 4 * B b)) = false
          · rw [if_pos y, if_pos ⟨y.1, by omega, y.2.2⟩]
          · rw [if_neg y, if_neg (fun x => y ⟨x.1, by omega, x.2.2⟩)]
    · refine br_f (by decide) (nm_r (nI_1 i) (hw s (fun g hg => ?_)))
      rw [h g hg]
      by_cases y : 4 * B b ≤ g ∧ g < 4 * B b + i ∧ M (4 * b + (g - 4 * B b)) = false
      · rw [if_pos y, if_pos ⟨y.1, by omega, y.2.2⟩]
      · rw [if_neg y, if_neg (fun x => y ⟨x.1, by
          by_cases z : g = 4 * B b + i
          · have x3 := x.2.2
            rw [show 4 * b + (g - 4 * B b) = 4 * b + i by omega] at x3
            exact (pr_tf hm x3).elim
          · omega, x.2.2⟩)]
theorem pr_preempt {post : St2 → Prop} (hG : pr_G M B T O a2) (hA : pr_A M V B T a1 a3 a4 a5 a6 a7 a8) (hx : ∃ b, b < 16 ∧ B b < 6 ∧ ¬ pr_bt M b = 15)
    (H : ∀ b a, b < 16 → B b < 6 → ¬ pr_bt M b = 15 → (∀ g, g < 24 → pr_cv a g = if 4 * B b ≤ g ∧ g < 4 * B b + 4 ∧ M (4 * b + (g - 4 * B b)) = false then 1 else pr_cv a2 g) → post (fc, uc, ck, a1, a, a3, a4, upd a5 b (-1), a6, a7, a8, a9)) :
    wpX_preempt post (fc, uc, ck, a1, a2, a3, a4, a5, a6, a7, a8, a9) := by
  refine pk_loop (σ := Int32) (fun n i s => wX_preempt_4 post fc uc ck a1 a2 a3 a4 a5 a6 a7 a8 a9 n s (nI i)) (fun i s => (s = -1 ∧ ∀ c, c < i → ¬ (B c < 6 ∧ ¬ pr_bt M c = 15)) ∨ (∃ c, c < 16 ∧ (B c < 6 ∧ ¬ pr_bt M c = 15) ∧ s = nI c)) 16 0 (-1) (by omega) (Or.inl ⟨rfl, fun c hc => absurd hc (by omega)⟩) ?_ ?_
  · intro n s h
    refine pk_le 16 16 (fun _ => br_c (fun e => ?_) (fun e => ?_)) (fun z => absurd z (by omega))
    · rcases h with ⟨_, h⟩ | ⟨c, hc, _, h⟩
      · obtain ⟨b, h1, h2⟩ := hx
        exact absurd h2 (h b h1)
      · rw [h] at e
        exact absurd e (pr_nn c (by omega))
    · rcases h with ⟨h, _⟩ | ⟨c, hc, h2, h⟩
      · exact absurd h e
      · rw [h]
        exact pr_pre67 hG hA hc h2.1 (fun a ha => H c a hc h2.1 h2.2 ha)
  · intro n i s hi h hw
    have keep : ¬ (B i < 6 ∧ ¬ pr_bt M i = 15) → (s = -1 ∧ ∀ c, c < i + 1 → ¬ (B c < 6 ∧ ¬ pr_bt M c = 15)) ∨ (∃ c, c < 16 ∧ (B c < 6 ∧ ¬ pr_bt M c = 15) ∧ s = nI c) := fun hn => by
      rcases h with ⟨h1, h2⟩ | h
      · exact Or.inl ⟨h1, lt_s h2 hn⟩
      · exact Or.inr h
    refine pk_le 16 i (fun z => absurd z (by omega)) (fun _ => ⟨pk_in i 16 hi, ?_⟩)
    rw [nI_clamp (by omega), hA.2.1 i hi, hA.1 i hi]
    refine br_c (fun e5 => nm_r (nI_1 i) (hw s (keep (fun z => pr_bs_ne z.1 e5)))) (fun e5 => ⟨pk_in i 16 hi, br_c (fun e6 => nm_r (nI_1 i) (hw s (keep (fun z => z.2 e6)))) (fun e6 => ?_)⟩)
    have hB : B i < 6 := by
      by_cases e : B i < 6
      · exact e
      · exact absurd (pr_bs_n e) e5
    have new : (nI i = -1 ∧ ∀ c, c < i + 1 → ¬ (B c < 6 ∧ ¬ pr_bt M c = 15)) ∨ (∃ c, c < 16 ∧ (B c < 6 ∧ ¬ pr_bt M c = 15) ∧ nI i = nI c) := Or.inr ⟨i, hi, ⟨hB, e6⟩, rfl⟩
    refine br_c (fun es => nm_r (nI_1 i) (hw (nI i) new)) (fun es => ⟨pk_in i 16 hi, ?_⟩)
    rcases h with ⟨h, _⟩ | ⟨c, hc, h2, h⟩
    · exact absurd h es
    · refine ⟨pk_in c 16 hc h, br_c (fun _ => nm_r (nI_1 i) (hw s (Or.inr ⟨c, hc, h2, h⟩))) (fun _ => nm_r (nI_1 i) (hw (nI i) new))⟩
theorem pr_br78 {post : St2 → Prop} {p : Nat} {v w : Int32} (hp : p < 64) (hm : M p = false) (huc : uc = nI (pr_cnt M 64)) (hG : pr_G (pr_set M p true) B T O a2) (hA : pr_A M V B T a1 a3 a4 a5 a6 a7 a8) (h5 : ∀ b, b < 16 → B b < 6 → ¬ pr_bt (pr_set M p true) b = 0)
    (H : ∀ u, pr_I (pr_set M p true) (upd V p v) u → post u) : wX_bringIn_78 post (nI p) w v (nI (p / 4)) (nI (T p)) 24 uc ck a1 a2 a3 a4 a5 a6 a7 a8 a9 := by
  have ht := (hG.1 p hp (Or.inl pr_set_s)).1
  have e6 := (pr_bt_k (M := M) (b := p / 4) (k := p % 4) (by omega)).2.1
  rw [show 4 * (p / 4) + p % 4 = p by omega] at e6
  have euc : uc + 1 = nI (pr_cnt (pr_set M p true) 64) := by
    rw [huc, pr_cnt_t hm 64 hp, nI_1]
  refine br_f (pr_nn _ (by omega)) ⟨pk_in p 64 hp, ?_⟩
  rw [nI_clamp (show p < 2 ^ 31 by omega), nI_clamp (show T p < 2 ^ 31 by omega), nI_clamp (show p / 4 < 2 ^ 31 by omega), pr_an3 hp, hA.1 (p / 4) (by omega), e6]
  refine nm_e ⟨pk_in p 64 hp, nm_e ⟨pk_in (T p) 48 (by omega), nm_e ⟨pk_in (p / 4) 16 (by omega), pk_in (p / 4) 16 (by omega), nm_e (nm_r euc (pr_use (by omega) (pr_joinUp ?_ (by omega) H)))⟩⟩⟩
  exact ⟨B, T, O, _, _, _, a2, _, _, a5, _, a7, a8, _, rfl, rfl, hG, pr_A_in hG hA hp hm, h5⟩
theorem pr_br27 {post : St2 → Prop} {p : Nat} {v w : Int32} (hp : p < 64) (hm : M p = false) (hc : pr_cnt M 64 < 24) (huc : uc = nI (pr_cnt M 64)) (hG : pr_G M B T O a2) (hA : pr_A M V B T a1 a3 a4 a5 a6 a7 a8) (h5 : ∀ b, b < 16 → b ≠ p / 4 → B b < 6 → ¬ pr_bt M b = 0)
    (H : ∀ u, pr_I (pr_set M p true) (upd V p v) u → post u) : wX_bringIn_27 post (nI p) w v (nI (p / 4)) 24 uc ck a1 a2 a3 a4 a5 a6 a7 a8 a9 := by
  have h5' : ∀ b, b < 16 → B b < 6 → ¬ pr_bt (pr_set M p true) b = 0 := fun b hb hB z => by
    by_cases e : b = p / 4
    · have z2 := pr_btz.mp z (p % 4) (by omega)
      rw [e, show 4 * (p / 4) + p % 4 = p by omega, pr_set_s] at z2
      exact Bool.noConfusion z2
    · rw [pr_bt_n (fun y => e y.symm)] at z
      exact h5 b hb e hB z
  refine ⟨pk_in (p / 4) 16 (by omega), ?_⟩
  rw [nI_clamp (show p / 4 < 2 ^ 31 by omega), hA.2.1 (p / 4) (by omega)]
  by_cases hB : B (p / 4) < 6
  · refine br_f (pr_bs_ne hB) ⟨pk_in (p / 4) 16 (by omega), nm_r (e' := nI (T p)) ?_ (pr_br78 hp hm huc (pr_G_set hG hB) hA h5' H)⟩
    rw [pr_bs_y hB, pr_an3 hp, nI_add, hG.2.2.1 p hp hB]
  · have one : ∀ (B' : Nat → Nat) (O' : Nat → Nat) (b2 b5 : Nat → Int32), pr_G M B' T O' b2 → pr_A M V B' T a1 a3 a4 b5 a6 a7 a8 → ¬ B' (p / 4) < 6 → (∀ b, b < 16 → B' b < 6 → B b < 6) → ∀ f a, pr_K (pr_cv b2) f 0 a → wX_bringIn_78 post (nI p) w v (nI (p / 4)) (nI f) 24 uc ck a1 a a3 a4 b5 a6 a7 a8 a9 := by
      intro B' O' b2 b5 hG' hA' hB' hBB f a hk
      have hG2 := pr_G_al1 hG' hp hm hB' hk
      have hA2 : pr_A M V B' (pr_put T p f) a1 a3 a4 b5 a6 a7 a8 := pr_A_T hA' (fun q hq hn => pr_put_n (fun e => by
        rw [e] at hn
        exact pr_tf hn hm))
      have t := pr_br78 (ck := ck) (a9 := a9) (v := v) (w := w) hp hm huc hG2 hA2 (fun b hb z => h5' b hb (hBB b hb z)) H
      rw [pr_put_s] at t
      exact t
    refine br_t (pr_bs_n hB) (pr_al (to := 0) (by omega) (pr_G_c1 hG) (fun f a hk => br_f (pr_nn f ?_) (one B O a2 a5 hG hA hB (fun _ _ z => z) f a hk)) (fun hn => br_t rfl ?_))
    · have := hk.2.1
      omega
    · obtain ⟨q, hq, hq1, hq2⟩ := pr_G_pg hG (pr_none hn) hc
      have hq4 : 4 * (q / 4) + q % 4 = q := by omega
      refine pr_preempt hG hA ⟨q / 4, by omega, hq2, fun z => ?_⟩ (fun b a hb hBb hbt ha => ?_)
      · have z2 := pr_bt15.mp z (q % 4) (by omega)
        rw [hq4] at z2
        exact pr_tf z2 hq1
      · have hG' := pr_G_pre hG hb hBb ha
        have hA' := pr_A_pre (b := b) hA hbt
        have hne : p / 4 ≠ b := fun e => hB (by rw [e]; exact hBb)
        refine pr_al (to := 0) (by omega) (pr_G_c1 hG') (fun f a' hk => one _ _ a _ hG' hA' (by rw [pr_put_n hne]; exact hB) (fun c hc2 z => ?_) f a' hk) (fun hn2 => ?_)
        · by_cases e : c = b
          · rw [e]
            exact hBb
          · rw [pr_put_n e] at z
            exact z
        · have hex : ∃ k, k < 4 ∧ M (4 * b + k) = false := by
            apply Classical.byContradiction
            intro hno
            refine hbt (pr_bt15.mpr (fun k hk => ?_))
            by_cases e : M (4 * b + k) = true
            · exact e
            · exact absurd ⟨k, hk, pr_nt e⟩ hno
          obtain ⟨k, hk, hMk⟩ := hex
          have z1 := pr_none hn2 (4 * B b + k) (by omega)
          rw [ha _ (by omega), if_pos ⟨by omega, by omega, by rw [show 4 * b + (4 * B b + k - 4 * B b) = 4 * b + k by omega]; exact hMk⟩] at z1
          exact absurd z1 (by decide)
theorem pr_bringIn {post : St2 → Prop} {u : St2} {p : Nat} {v w : Int32} (h : pr_I M V u) (hp : p < 64) (hm : M p = false) (hc : pr_cnt M 64 < 24) (H : ∀ u', pr_I (pr_set M p true) (upd V p v) u' → post u') : wpX_bringIn post u (nI p) w v := by
  obtain ⟨B, T, O, uc, ck, a1, a2, a3, a4, a5, a6, a7, a8, a9, rfl, huc, hG, hA, h5⟩ := h
  unfold wpX_bringIn
  dsimp only
  refine nm_r (pr_sh2 hp) ?_
  rw [nI_clamp (show p / 4 < 2 ^ 31 by omega), hA.1 (p / 4) (by omega)]
  refine ⟨pk_in (p / 4) 16 (by omega), br_c (fun hz => ?_) (fun hz => pr_br27 hp hm hc huc hG hA (fun b hb _ => h5 b hb) H)⟩
  have hB : ¬ B (p / 4) < 6 := fun z => h5 _ (by omega) z hz
  have hM := pr_btz.mp hz
  refine pr_al2 (to := 2) (by omega) (pr_G_c1 hG) (fun f a hk => ⟨pk_in (p / 4) 16 (by omega), nm_e ?_⟩) (fun _ => ⟨pk_in (p / 4) 16 (by omega), nm_e (pr_br27 hp hm hc huc hG (pr_A_none hA hB) (fun b hb _ => h5 b hb) H)⟩)
  refine pr_br27 hp hm hc huc (pr_G_al4 hG (by omega) hB hM hk) (pr_A_res hA hk.1 hk.2.1 hM) (fun b hb e z => ?_) H
  rw [pr_put_n e] at z
  exact h5 b hb z
theorem pr_takeOut {post : St2 → Prop} {u : St2} {p : Nat} (h : pr_I M V u) (hp : p < 64) (hm : M p = true) (H : ∀ u', pr_I (pr_set M p false) V u' → post u') : wpX_takeOut post u (nI p) := by
  obtain ⟨B, T, O, uc, ck, a1, a2, a3, a4, a5, a6, a7, a8, a9, rfl, huc, hG, hA, h5⟩ := h
  unfold wpX_takeOut
  dsimp only
  refine nm_r (pr_sh2 hp) (pr_breakUp hG hA (by omega) (fun a3' a4' a7' hA' h7 => ?_))
  have ht := (hG.1 p hp (Or.inl hm)).1
  have e6 := (pr_bt_k (M := M) (b := p / 4) (k := p % 4) (by omega)).2.2
  rw [show 4 * (p / 4) + p % 4 = p by omega] at e6
  have hcn := pr_cnt_f hm 64 hp
  have euc : uc - 1 = nI (pr_cnt (pr_set M p false) 64) := by
    rw [huc, ← hcn, nI_pred]
  have hA2 := pr_A_out hG hA' hp hm h7
  have h5o : ∀ b, b < 16 → b ≠ p / 4 → B b < 6 → ¬ pr_bt (pr_set M p false) b = 0 := fun b hb e hB => by
    rw [pr_bt_n (fun z => e z.symm)]
    exact h5 b hb hB
  dsimp only
  rw [nI_clamp (show p < 2 ^ 31 by omega), nI_clamp (show p / 4 < 2 ^ 31 by omega), pr_an3 hp, hA'.2.2.2.1 p hp hm h7, hA.1 (p / 4) (by omega), hA.2.1 (p / 4) (by omega), e6]
  refine ⟨pk_in p 64 hp, nm_e ⟨pk_in p 64 hp, nm_e ⟨pk_in (p / 4) 16 (by omega), pk_in (p / 4) 16 (by omega), nm_e (nm_r euc ⟨pk_in (T p) 48 (by omega), ?_⟩)⟩⟩⟩
  rw [nI_clamp (show T p < 2 ^ 31 by omega), pk_us]
  refine nm_e ⟨pk_in (p / 4) 16 (by omega), ?_⟩
  by_cases hB : B (p / 4) < 6
  · refine br_f (pr_bs_ne hB) ⟨pk_in (p / 4) 16 (by omega), br_c (fun hz => ⟨pk_in (p / 4) 16 (by omega), ?_⟩) (fun hz => H _ ?_)⟩
    · rw [pr_bs_y hB]
      have hG2 : pr_G (pr_set M p false) B T O a2 := pr_G_set hG hB
      refine pr_gb (o := 2) (by omega) (show 4 * B (p / 4) % 4 = 0 by omega) (show 4 * B (p / 4) + 4 ≤ 24 by omega) (pr_G_c1 hG) (fun g h1 h2 => ?_) (fun a ha => ⟨pk_in (p / 4) 16 (by omega), nm_e (H _ ?_)⟩)
      · have h2' : g < 4 * B (p / 4) + 4 := h2
        have hd : (4 * (p / 4) + (g - 4 * B (p / 4))) / 4 = p / 4 := by omega
        have ho := pr_G_own hG (p := 4 * (p / 4) + (g - 4 * B (p / 4))) (by omega) (Or.inr (by rw [hd]; exact hB))
        have ht2 := hG.2.2.1 (4 * (p / 4) + (g - 4 * B (p / 4))) (by omega) (by rw [hd]; exact hB)
        rw [hd, show 4 * B (p / 4) + (4 * (p / 4) + (g - 4 * B (p / 4))) % 4 = g by omega] at ht2
        rw [ht2] at ho
        exact ho
      · have ha' : ∀ g, g < 24 → pr_cv a g = if 4 * B (p / 4) ≤ g ∧ g < 4 * B (p / 4) + 4 ∧ pr_set M p false (4 * (p / 4) + (g - 4 * B (p / 4))) = false then 1 else pr_cv a2 g := fun g hg => by
          rw [ha g hg]
          by_cases e : 4 * B (p / 4) ≤ g ∧ g < 4 * B (p / 4) + 4
          · rw [if_pos e, if_pos ⟨e.1, e.2, pr_btz.mp hz _ (by omega)⟩]
          · rw [if_neg e, if_neg (fun z => e ⟨z.1, z.2.1⟩)]
        refine ⟨_, T, _, _, _, _, a, _, _, _, _, _, a8, a9, rfl, rfl, pr_G_pre hG2 (by omega) hB ha', pr_A_pre (b := p / 4) hA2 (by rw [hz]; decide), fun b hb z => ?_⟩
        by_cases e : b = p / 4
        · rw [e, pr_put_s] at z
          exact absurd z (by omega)
        · rw [pr_put_n e] at z
          exact h5o b hb e z
    · refine ⟨B, T, O, _, _, _, a2, _, _, _, _, _, a8, a9, rfl, rfl, pr_G_set hG hB, hA2, fun b hb z => ?_⟩
      by_cases e : b = p / 4
      · rw [e]
        exact hz
      · exact h5o b hb e z
  · refine br_t (pr_bs_n hB) (pr_gb (o := 0) (by omega) (Nat.mod_one _) (show T p + 1 ≤ 24 by omega) (pr_G_c1 hG) (fun g h1 h2 => ?_) (fun a ha => H _ ?_))
    · have h2' : g < T p + 1 := h2
      rw [show g = T p by omega]
      exact pr_G_own hG hp (Or.inl hm)
    · refine ⟨B, T, _, _, _, _, a, _, _, _, _, _, a8, a9, rfl, rfl, pr_G_fr1 hG hp hm hB ha, hA2, fun b hb z => h5o b hb (fun e => hB (by rw [← e]; exact z)) z⟩
theorem pr_carry {post : St2 → Prop} {u : St2} {p q : Nat} (h : pr_I M V u) (hp : p < 64) (hq : q < 64) (hm : M p = true) (hn : M q = false) (hc : pr_cnt M 64 ≤ 24) (H : ∀ u', pr_I (pr_set (pr_set M p false) q true) (upd V q (V p)) u' → post u') : wpX_carry post u (nI p) (nI q) := by
  have h' := h
  obtain ⟨B, T, O, uc, ck, a1, a2, a3, a4, a5, a6, a7, a8, a9, rfl, huc, hG, hA, h5⟩ := h
  have hcn := pr_cnt_f hm 64 hp
  have hqp : q ≠ p := fun e => by
    rw [e] at hn
    exact pr_tf hm hn
  unfold wpX_carry
  dsimp only
  refine pr_mayWrite h' hp (fun w => pr_content h' hp hm (pr_takeOut h' hp hm (fun u' hu' => ?_)))
  exact pr_bringIn (u := u') hu' hq (by rw [pr_set_n hqp]; exact hn) (by omega) H
end
end
section
theorem pr_free0 : ∀ g, g < 24 → pr_cv (upd (upd (upd (fun _ => 0) 144 1) 152 1) 160 1) g = 1 := by decide +kernel
theorem pr_s0 (p : Nat) : (32 : Int32) * 0 + nI p = nI p := by
  show nI 32 * nI 0 + nI p = nI p
  rw [pk_mul, nI_add, Nat.mul_zero, Nat.zero_add]
theorem pr_s1 (p : Nat) : (32 : Int32) * 1 + nI p = nI (32 + p) := by
  show nI 32 * nI 1 + nI p = nI (32 + p)
  rw [pk_mul, nI_add]
/-- the sum of what the mapped pages below k hold -/
def pr_sm (M : Nat → Bool) (V : Nat → Int32) : Nat → Int32
  | 0 => 0
  | k + 1 => pr_sm M V k + (if M k then V k else 0)
/-- what c pages from offset d on held -/
def pr_go (v : Int32) (d : Nat) : Nat → Int32
  | 0 => 0
  | c + 1 => pr_go v d c + (v + nI (d + c))
theorem pr_sm_hi {M : Nat → Bool} {V : Nat → Int32} {p : Nat} {b : Bool} (k : Nat) (h : k ≤ p) : pr_sm (pr_set M p b) V k = pr_sm M V k := by
  induction k with
  | zero => rfl
  | succ k ih =>
    show pr_sm (pr_set M p b) V k + (if pr_set M p b k then V k else 0) = pr_sm M V k + (if M k then V k else 0)
    rw [ih (by omega), pr_set_n (show k ≠ p by omega)]
theorem pr_sm_f {M : Nat → Bool} {V : Nat → Int32} {p : Nat} (hp : M p = true) (k : Nat) (h : p < k) : pr_sm (pr_set M p false) V k + V p = pr_sm M V k := by
  induction k with
  | zero => exact absurd h (by omega)
  | succ k ih =>
    show pr_sm (pr_set M p false) V k + (if pr_set M p false k then V k else 0) + V p = pr_sm M V k + (if M k then V k else 0)
    by_cases e : k = p
    · rw [e, pr_set_s, hp, pr_sm_hi p (Nat.le_refl p), if_neg (by decide), if_pos rfl, Int32.add_zero]
    · rw [pr_set_n e, ← ih (by omega)]
      generalize (if M k = true then V k else 0) = z
      grind
theorem pr_sm_V {M : Nat → Bool} {V V' : Nat → Int32} (k : Nat) (h : ∀ j, j < k → M j = true → V j = V' j) : pr_sm M V k = pr_sm M V' k := by
  induction k with
  | zero => rfl
  | succ k ih =>
    show pr_sm M V k + (if M k then V k else 0) = pr_sm M V' k + (if M k then V' k else 0)
    rw [ih (fun j hj => h j (by omega))]
    by_cases e : M k = true
    · rw [if_pos e, if_pos e, h k (by omega) e]
    · rw [if_neg e, if_neg e]
theorem pr_sm_M {M M' : Nat → Bool} {V : Nat → Int32} (k : Nat) (h : ∀ j, j < k → M j = M' j) : pr_sm M V k = pr_sm M' V k := by
  induction k with
  | zero => rfl
  | succ k ih =>
    show pr_sm M V k + (if M k then V k else 0) = pr_sm M' V k + (if M' k then V k else 0)
    rw [ih (fun j hj => h j (by omega)), h k (by omega)]
theorem pr_sm_t {M : Nat → Bool} {V : Nat → Int32} {p : Nat} {v : Int32} (hp : M p = false) (k : Nat) (h : p < k) : pr_sm (pr_set M p true) (upd V p v) k = pr_sm M V k + v := by
  induction k with
  | zero => exact absurd h (by omega)
  | succ k ih =>
    show pr_sm (pr_set M p true) (upd V p v) k + (if pr_set M p true k then upd V p v k else 0) = pr_sm M V k + (if M k then V k else 0) + v
    by_cases e : k = p
    · rw [e, pr_set_s, hp, pr_sm_hi p (Nat.le_refl p), if_pos rfl, pk_us, if_neg (by decide), Int32.add_zero, pr_sm_V (V' := V) p (fun j hj _ => pk_un (by omega))]
    · rw [pr_set_n e, pk_un e, ih (by omega)]
      generalize (if M k = true then V k else 0) = z
      grind
section
variable {M : Nat → Bool} {V : Nat → Int32}
theorem pr_init159 {post : St2 → Prop} {mc ms kc ks : Nat} {fc uc ck : Int32} {a1 a2 a3 a4 a5 a6 a7 a8 a9 : Nat → Int32} (H : ∀ a, (∀ j, j < 16 → a j = -1) → post (fc, uc, ck, a1, a2, a3, a4, a, a6, a7, a8, a9)) : ∃ n, wX_init_159 post mc ms kc ks fc uc ck n 0 a1 a2 a3 a4 a5 a6 a7 a8 a9 :=
  pk_loop (fun n i s => wX_init_159 post mc ms kc ks fc uc ck n (nI i) a1 a2 a3 a4 s a6 a7 a8 a9) (fun i s => ∀ j, j < i → s j = -1) 16 0 a5 (by omega) (fun j hj => absurd hj (by omega))
    (fun n s h => pk_le 16 16 (fun _ => H s h) (fun z => absurd z (by omega)))
    (fun n i s hi h hw => pk_le 16 i (fun z => absurd z (by omega)) (fun _ => ⟨pk_in i 16 hi, nm_r (e' := upd s i (-1)) (by rw [nI_clamp (by omega)]) (nm_r (nI_1 i) (hw _ (fun j hj => by
      by_cases e : j = i
      · rw [e, pk_us]
      · rw [pk_un e]
        exact h j (by omega))))⟩))
theorem pr_init138 {post : St2 → Prop} {mc ms kc ks : Nat} {fc uc ck : Int32} {a1 a2 a3 a4 a5 a6 a7 a8 a9 : Nat → Int32} (H : ∀ b a, (∀ j, j < 16 → a j = -1) → post (fc, uc, ck, a1, a2, b, a4, a, a6, a7, a8, a9)) : ∃ n, wX_init_138 post mc ms kc ks fc uc ck n 0 a1 a2 a3 a4 a5 a6 a7 a8 a9 :=
  pk_loop (fun n i s => wX_init_138 post mc ms kc ks fc uc ck n (nI i) a1 a2 s a4 a5 a6 a7 a8 a9) (fun _ _ => True) 64 0 a3 (by omega) trivial
    (fun n s h => pk_le 64 64 (fun _ => pr_init159 (H s)) (fun z => absurd z (by omega)))
    (fun n i s hi h hw => pk_le 64 i (fun z => absurd z (by omega)) (fun _ => ⟨pk_in i 64 hi, nm_e (nm_r (nI_1 i) (hw _ trivial))⟩))
theorem pr_I0 {ck : Int32} {a1 a3 a5 a9 : Nat → Int32} (h : ∀ j, j < 16 → a5 j = -1) : pr_I (fun _ => false) V (24, 0, ck, a1, upd (upd (upd (fun _ => 0) 144 1) 152 1) 160 1, a3, fun _ => 0, a5, fun _ => 0, fun _ => 0, fun _ => 0, a9) := by
  have hl : ∀ p, ¬ pr_lv (fun _ => false) (fun _ => 6) p := fun p l => by
    rcases l with l | l
    · exact Bool.noConfusion l
    · exact absurd l (show ¬ 6 < 6 by omega)
  refine ⟨fun _ => 6, fun _ => 0, fun _ => 0, 0, ck, a1, _, a3, _, a5, _, _, _, a9, rfl, by decide +kernel, ⟨fun p _ l => absurd l (hl p), fun f _ z => absurd rfl z, fun p _ z => absurd z (show ¬ 6 < 6 by omega), fun f hf => pr_free0 f hf⟩, ⟨fun b _ => rfl, fun b hb => by rw [h b hb]; rfl, fun b _ z => absurd rfl z, fun p _ z => Bool.noConfusion z, fun p _ z => Bool.noConfusion z, fun _ _ => Or.inl rfl, fun _ _ => Or.inl rfl⟩, fun b _ z => absurd z (show ¬ 6 < 6 by omega)⟩
theorem pr_init {post : St2 → Prop} {mc ms : Nat} (h1 : 9 ≤ mc) (h2 : 448 ≤ ms) (H : ∀ u, pr_I (fun _ => false) (fun _ => 0) u → post u) : wpX_init post mc ms (0, 0, 0) 24 := by
  have L : ∃ n, wX_init_111 post mc ms 9 448 24 0 0 n 0 (fun _ => 0) (fun _ => 0) (fun _ => 0) (fun _ => 0) (fun _ => 0) (fun _ => 0) (fun _ => 0) (fun _ => 0) (fun _ => 0) := by
    refine ⟨4, ?_⟩
    refine pk_le 24 0 (fun z => absurd z (by omega)) (fun _ => ⟨pk_in 144 192 (by omega), nm_r (e' := upd (fun _ => 0) 144 1) rfl (nm_r (e' := nI 8) rfl ?_)⟩)
    refine pk_le 24 8 (fun z => absurd z (by omega)) (fun _ => ⟨pk_in 152 192 (by omega), nm_r (e' := upd (upd (fun _ => 0) 144 1) 152 1) rfl (nm_r (e' := nI 16) rfl ?_)⟩)
    refine pk_le 24 16 (fun z => absurd z (by omega)) (fun _ => ⟨pk_in 160 192 (by omega), nm_r (e' := upd (upd (upd (fun _ => 0) 144 1) 152 1) 160 1) rfl (nm_r (e' := nI 24) rfl ?_)⟩)
    exact pk_le 24 24 (fun _ => pr_init138 (fun b a ha => H _ (pr_I0 ha))) (fun z => absurd z (by omega))
  refine ⟨by omega, by omega, by omega, by omega, by omega, by omega, by omega, by omega, by omega, by omega, by omega, by omega, by omega, by omega, by omega, by omega, by omega, by omega, ?_⟩
  refine br_t (by decide) ?_
  refine br_t (by decide) ?_
  exact ⟨by decide, nm_r (e' := 24) (by decide) L⟩
theorem pr_map0 {post : Int32 → St2 → Prop} {u : St2} {p n : Nat} (h : pr_I (fun _ => false) V u) (hn : 1 ≤ n) (hn2 : n ≤ 24) (hpn : p + n ≤ 32) (H : ∀ u' M' V', pr_I M' V' u' → (∀ j, j < 64 → (M' j = true ↔ p ≤ j ∧ j < p + n)) → pr_cnt M' 64 = n → post (nI n) u') : wpX_map post u 0 (nI p) (nI n) := by
  have h' := h
  obtain ⟨B, T, O, uc, ck, a1, a2, a3, a4, a5, a6, a7, a8, a9, rfl, huc, hG, hA, h5⟩ := h
  have hu0 : uc = nI 0 := huc
  unfold wpX_map
  dsimp only
  refine pr_space0 (br_f (by decide) (pr_range hn hpn (br_f (by decide) (nm_r (pr_s0 p) ?_))))
  refine pk_loop (σ := Unit) (fun m i _ => wX_map_35 post (nI n) (nI p) 24 uc ck a1 a2 a3 a4 a5 a6 a7 a8 a9 m (nI i) (nI (p + i))) (fun _ _ => True) n 0 () (by omega) trivial ?_ ?_
  · intro m _ _
    refine pk_le (p + n) (p + n) (fun _ => ?_) (fun z => absurd z (by omega)) (nI_add p n)
    refine pk_le n 24 (fun _ => ?_) (fun z => absurd z (by omega)) (by rw [hu0, nI_add, Nat.zero_add])
    refine pk_loop (σ := St2) (fun m i s => wX_map_83 post (nI n) (nI p) (nI n) m (nI (p + i)) s.1 s.2.1 s.2.2.1 s.2.2.2.1 s.2.2.2.2.1 s.2.2.2.2.2.1 s.2.2.2.2.2.2.1 s.2.2.2.2.2.2.2.1 s.2.2.2.2.2.2.2.2.1 s.2.2.2.2.2.2.2.2.2.1 s.2.2.2.2.2.2.2.2.2.2.1 s.2.2.2.2.2.2.2.2.2.2.2) (fun i s => ∃ M' V', pr_I M' V' s ∧ (∀ j, j < 64 → (M' j = true ↔ p ≤ j ∧ j < p + i)) ∧ pr_cnt M' 64 = i) n 0 (24, uc, ck, a1, a2, a3, a4, a5, a6, a7, a8, a9) (by omega) ⟨_, V, h', fun j _ => ⟨fun z => Bool.noConfusion z, fun z => absurd z (by omega)⟩, by decide +kernel⟩ ?_ ?_
    · intro m s hs
      obtain ⟨M', V', hI, hM, hc⟩ := hs
      obtain ⟨c0, c1, c2, b1, b2, b3, b4, b5, b6, b7, b8, b9⟩ := s
      exact pk_le (p + n) (p + n) (fun _ => H _ M' V' hI hM hc) (fun z => absurd z (by omega)) (nI_add p n)
    · intro m i s hi hs hw
      obtain ⟨M', V', hI, hM, hc⟩ := hs
      obtain ⟨c0, c1, c2, b1, b2, b3, b4, b5, b6, b7, b8, b9⟩ := s
      have hf : M' (p + i) = false := pr_nt (fun z => absurd ((hM (p + i) (by omega)).mp z) (by omega))
      refine pk_le (p + n) (p + i) (fun z => absurd z (by omega)) (fun _ => pr_has hI (by omega) (fun z => (pr_tf z hf).elim) (fun _ => br_t rfl ?_)) (nI_add p n)
      refine pr_bringIn hI (by omega) hf (by omega) (fun u' hu' => ?_)
      obtain ⟨d0, d1, d2, e1, e2, e3, e4, e5, e6, e7, e8, e9⟩ := u'
      refine nm_r (nI_1 (p + i)) (hw (d0, d1, d2, e1, e2, e3, e4, e5, e6, e7, e8, e9) ⟨_, _, hu', fun j hj => ?_, ?_⟩)
      · by_cases e : j = p + i
        · rw [e, pr_set_s]
          exact ⟨fun _ => by omega, fun _ => rfl⟩
        · rw [pr_set_n e, hM j hj]
          omega
      · rw [pr_cnt_t hf 64 (by omega), hc]
  · intro m i _ hi _ hw
    exact pk_le (p + n) (p + i) (fun z => absurd z (by omega)) (fun _ => pr_has h' (by omega) (fun z => Bool.noConfusion z) (fun _ => br_t rfl (nm_r (nI_1 i) (nm_r (nI_1 (p + i)) (hw () trivial))))) (nI_add p n)
theorem pr_stamp {post : Int32 → St2 → Prop} {u : St2} {p n : Nat} {v : Int32} (h : pr_I M V u) (hn : 1 ≤ n) (hpn : p + n ≤ 32) (hM : ∀ j, j < n → M (p + j) = true) (H : ∀ u' V', pr_I M V' u' → (∀ j, j < n → V' (p + j) = v + nI j) → post (nI n) u') : wpX_stamp post u 0 (nI (64 * p + n)) v := by
  have h' := h
  obtain ⟨B, T, O, uc, ck, a1, a2, a3, a4, a5, a6, a7, a8, a9, rfl, huc, hG, hA, h5⟩ := h
  have e6 : nI (64 * p + n) >>> ((6 : Int32) &&& 31) = nI p := by
    rw [pk_shrN (by omega) _ 6 (by decide), show (64 * p + n) / 2 ^ 6 = p by omega]
  have e63 : nI (64 * p + n) &&& 63 = nI n := by
    rw [pk_andN (by omega) 6 (by decide), show (64 * p + n) % 2 ^ 6 = n by omega]
  unfold wpX_stamp
  dsimp only
  rw [e6, e63]
  refine pr_space0 (br_f (by decide) (pk_lt (64 * p + n) 0 (fun z => absurd z (by omega)) (fun _ => pr_range hn hpn (br_f (by decide) (nm_r (pr_s0 p) ?_)))))
  refine pk_loop (σ := St2) (fun m i s => wX_stamp_48 post (nI (64 * p + n)) v (nI p) m (nI i) (nI (p + i)) s.1 s.2.1 s.2.2.1 s.2.2.2.1 s.2.2.2.2.1 s.2.2.2.2.2.1 s.2.2.2.2.2.2.1 s.2.2.2.2.2.2.2.1 s.2.2.2.2.2.2.2.2.1 s.2.2.2.2.2.2.2.2.2.1 s.2.2.2.2.2.2.2.2.2.2.1 s.2.2.2.2.2.2.2.2.2.2.2) (fun i s => ∃ V', pr_I M V' s ∧ (∀ j, j < i → V' (p + j) = v + nI j)) n 0 (24, uc, ck, a1, a2, a3, a4, a5, a6, a7, a8, a9) (by omega) ⟨V, h', fun j hj => absurd hj (by omega)⟩ ?_ ?_
  · intro m s hs
    obtain ⟨V', hI, hV⟩ := hs
    obtain ⟨c0, c1, c2, b1, b2, b3, b4, b5, b6, b7, b8, b9⟩ := s
    exact pk_le (p + n) (p + n) (fun _ => H _ V' hI hV) (fun z => absurd z (by omega)) (by rw [e63, nI_add])
  · intro m i s hi hs hw
    obtain ⟨V', hI, hV⟩ := hs
    obtain ⟨c0, c1, c2, b1, b2, b3, b4, b5, b6, b7, b8, b9⟩ := s
    refine pk_le (p + n) (p + i) (fun z => absurd z (by omega)) (fun _ => pr_has hI (by omega) (fun z => br_f (by decide) ?_) (fun z => (pr_tf (hM i hi) z).elim)) (by rw [e63, nI_add])
    refine pr_setContent hI (by omega) (hM i hi) (fun u' hu' => ?_)
    obtain ⟨d0, d1, d2, f1, f2, f3, f4, f5, f6, f7, f8, f9⟩ := u'
    refine nm_r (nI_1 i) (nm_r (nI_1 (p + i)) (hw (d0, d1, d2, f1, f2, f3, f4, f5, f6, f7, f8, f9) ⟨_, hu', fun j hj => ?_⟩))
    by_cases e : j = i
    · rw [e, pk_us]
    · rw [pk_un (by omega)]
      exact hV j (by omega)
theorem pr_unmap {post : Int32 → St2 → Prop} {u : St2} {p n h g : Nat} {v : Int32} (hI0 : pr_I M V u) (hg : 1 ≤ g) (hhg : h + g ≤ 32) (hph : p ≤ h) (hhn : h ≤ p + n) (hM : ∀ j, j < 64 → (M j = true ↔ p ≤ j ∧ j < p + n)) (hV : ∀ j, j < n → V (p + j) = v + nI j) (H : ∀ u' M', pr_I M' V u' → (∀ j, j < 64 → (M' j = true ↔ M j = true ∧ ¬ (h ≤ j ∧ j < h + g))) → pr_cnt M' 64 + min g (p + n - h) = pr_cnt M 64 → pr_sm M' V 32 + pr_go v (h - p) (min g (p + n - h)) = pr_sm M V 32 → post (nI (min g (p + n - h))) u') : wpX_unmap post u 0 (nI h) (nI g) := by
  have h' := hI0
  obtain ⟨B, T, O, uc, ck, a1, a2, a3, a4, a5, a6, a7, a8, a9, rfl, huc, hG, hA, h5⟩ := hI0
  unfold wpX_unmap
  dsimp only
  refine pr_space0 (br_f (by decide) (pr_range hg hhg (br_f (by decide) (nm_r (pr_s0 h) ?_))))
  have L := pk_loop (σ := St2) (fun m i s => wX_unmap_35 post (nI g) (nI h) m (nI (min i (p + n - h))) (nI (h + i)) s.1 s.2.1 s.2.2.1 s.2.2.2.1 s.2.2.2.2.1 s.2.2.2.2.2.1 s.2.2.2.2.2.2.1 s.2.2.2.2.2.2.2.1 s.2.2.2.2.2.2.2.2.1 s.2.2.2.2.2.2.2.2.2.1 s.2.2.2.2.2.2.2.2.2.2.1 s.2.2.2.2.2.2.2.2.2.2.2) (fun i s => ∃ M', pr_I M' V s ∧ (∀ j, j < 64 → (M' j = true ↔ M j = true ∧ ¬ (h ≤ j ∧ j < h + i))) ∧ pr_cnt M' 64 + min i (p + n - h) = pr_cnt M 64 ∧ pr_sm M' V 32 + pr_go v (h - p) (min i (p + n - h)) = pr_sm M V 32) g 0 (24, uc, ck, a1, a2, a3, a4, a5, a6, a7, a8, a9) (by omega) ⟨M, h', fun j _ => ⟨fun z => ⟨z, by omega⟩, fun z => z.1⟩, by omega, by rw [Nat.zero_min]; exact Int32.add_zero _⟩ ?_ ?_
  · obtain ⟨m, hm⟩ := L
    have hm' : wX_unmap_35 post (nI g) (nI h) m (nI (min 0 (p + n - h))) (nI (h + 0)) 24 uc ck a1 a2 a3 a4 a5 a6 a7 a8 a9 := hm
    rw [Nat.zero_min] at hm'
    exact ⟨m, hm'⟩
  · intro m s hs
    obtain ⟨M', hI, hM', hc, hsm⟩ := hs
    obtain ⟨c0, c1, c2, b1, b2, b3, b4, b5, b6, b7, b8, b9⟩ := s
    exact pk_le (h + g) (h + g) (fun _ => H _ M' hI hM' hc hsm) (fun z => absurd z (by omega)) (nI_add h g)
  · intro m i s hi hs hw
    obtain ⟨M', hI, hM', hc, hsm⟩ := hs
    obtain ⟨c0, c1, c2, b1, b2, b3, b4, b5, b6, b7, b8, b9⟩ := s
    have hmi := hM' (h + i) (by omega)
    rw [hM (h + i) (by omega)] at hmi
    refine pk_le (h + g) (h + i) (fun z => absurd z (by omega)) (fun _ => pr_has hI (by omega) (fun z => br_f (by decide) ?_) (fun z => br_t rfl ?_)) (nI_add h g)
    · have hz := hmi.mp z
      refine pr_takeOut hI (by omega) z (fun u' hu' => ?_)
      obtain ⟨d0, d1, d2, f1, f2, f3, f4, f5, f6, f7, f8, f9⟩ := u'
      have hcn := pr_cnt_f z 64 (by omega)
      have hsf := pr_sm_f (V := V) z 32 (by omega)
      have hv : V (h + i) = v + nI (h - p + i) := by
        have e := hV (h - p + i) (by omega)
        rw [show p + (h - p + i) = h + i by omega] at e
        exact e
      have em : min (i + 1) (p + n - h) = i + 1 := by omega
      have em0 : min i (p + n - h) = i := by omega
      rw [em0] at hc hsm
      have t := hw (d0, d1, d2, f1, f2, f3, f4, f5, f6, f7, f8, f9) ⟨_, hu', fun j hj => by
        by_cases e : j = h + i
        · rw [e, pr_set_s]
          exact ⟨fun y => Bool.noConfusion y, fun y => absurd y.2 (by omega)⟩
        · rw [pr_set_n e, hM' j hj]
          exact ⟨fun y => ⟨y.1, by omega⟩, fun y => ⟨y.1, by omega⟩⟩, by rw [em]; omega, by
        rw [em]
        show pr_sm (pr_set M' (h + i) false) V 32 + (pr_go v (h - p) i + (v + nI (h - p + i))) = pr_sm M V 32
        rw [← hsm, ← hsf, hv]
        grind⟩
      have t' : wX_unmap_35 post (nI g) (nI h) m (nI (min (i + 1) (p + n - h))) (nI (h + (i + 1))) d0 d1 d2 f1 f2 f3 f4 f5 f6 f7 f8 f9 := t
      rw [em] at t'
      show ∀ x5 : Int32, x5 = nI (min i (p + n - h)) + 1 → ∀ x6 : Int32, x6 = nI (h + i) + 1 → wX_unmap_35 post (nI g) (nI h) m x5 x6 d0 d1 d2 f1 f2 f3 f4 f5 f6 f7 f8 f9
      rw [em0]
      exact nm_r (nI_1 i) (nm_r (nI_1 (h + i)) t')
    · have hz : ¬ (h + i < p + n) := fun y => pr_tf (hmi.mpr ⟨⟨by omega, y⟩, by omega⟩) z
      have em : min (i + 1) (p + n - h) = min i (p + n - h) := by omega
      have t := hw (c0, c1, c2, b1, b2, b3, b4, b5, b6, b7, b8, b9) ⟨M', hI, fun j hj => by
        rw [hM' j hj, hM j hj]
        omega, by rw [em]; exact hc, by rw [em]; exact hsm⟩
      have t' : wX_unmap_35 post (nI g) (nI h) m (nI (min (i + 1) (p + n - h))) (nI (h + (i + 1))) c0 c1 c2 b1 b2 b3 b4 b5 b6 b7 b8 b9 := t
      rw [em] at t'
      exact nm_r (nI_1 (h + i)) t'
end
end
section
section
variable {M : Nat → Bool} {V : Nat → Int32} {u : St2}
theorem pr_s1m (x : Nat) : (32 : Int32) * (1 - 0) + nI x = nI (32 + x) := by
  rw [show (1 : Int32) - 0 = 1 by decide]
  exact pr_s1 x
theorem pr_s2 (x : Nat) : (32 : Int32) + nI x = nI (32 + x) := by
  show nI 32 + nI x = nI (32 + x)
  rw [nI_add]
theorem pr_remap_y {post : Int32 → St2 → Prop} {f : Nat} (h : pr_I M V u) (hf : f < 32) (hm : M f = true) (hn : M 31 = false) (hc : pr_cnt M 64 ≤ 24) (H : ∀ u', pr_I (pr_set (pr_set M f false) 31 true) (upd V 31 (V f)) u' → post 0 u') : wpX_remap post u 0 (nI f) 31 := by
  have h' := h
  obtain ⟨B, T, O, uc, ck, a1, a2, a3, a4, a5, a6, a7, a8, a9, rfl, huc, hG, hA, h5⟩ := h
  unfold wpX_remap
  dsimp only
  refine pr_space0 (br_f (by decide) (pr_page hf (br_f (by decide) (pr_page (p := 31) (by omega) (br_f (by decide) (nm_r (pr_s0 f) (nm_r (e' := nI 31) rfl ?_)))))))
  exact pr_has h' (by omega) (fun _ => br_f (by decide) (pr_has h' (by omega) (fun z => (pr_tf z hn).elim) (fun _ => br_t rfl (pr_carry h' (by omega) (by omega) hm hn hc H)))) (fun z => (pr_tf hm z).elim)
theorem pr_remap_n {post : Int32 → St2 → Prop} {f : Nat} (h : pr_I M V u) (hf : f < 32) (hm : M f = false) (H : post (-3) u) : wpX_remap post u 0 (nI f) 31 := by
  have h' := h
  obtain ⟨B, T, O, uc, ck, a1, a2, a3, a4, a5, a6, a7, a8, a9, rfl, huc, hG, hA, h5⟩ := h
  unfold wpX_remap
  dsimp only
  refine pr_space0 (br_f (by decide) (pr_page hf (br_f (by decide) (pr_page (p := 31) (by omega) (br_f (by decide) (nm_r (pr_s0 f) (nm_r (e' := nI 31) rfl ?_)))))))
  exact pr_has h' (by omega) (fun z => (pr_tf z hm).elim) (fun _ => br_t rfl H)
theorem pr_dup_y {post : Int32 → St2 → Prop} {x : Nat} (h : pr_I M V u) (hx : x < 32) (hm : M x = true) (hn : M (32 + x) = false) (hc : pr_cnt M 64 < 24) (H : ∀ u', pr_I (pr_set M (32 + x) true) (upd V (32 + x) (V x)) u' → post 0 u') : wpX_duplicate post u 0 (nI x) := by
  have h' := h
  obtain ⟨B, T, O, uc, ck, a1, a2, a3, a4, a5, a6, a7, a8, a9, rfl, huc, hG, hA, h5⟩ := h
  unfold wpX_duplicate
  dsimp only
  refine pr_space0 (br_f (by decide) (pr_page hx (br_f (by decide) (nm_r (pr_s0 x) (nm_r (pr_s1m x) ?_)))))
  refine pr_has h' (by omega) (fun _ => br_f (by decide) (pr_has h' (by omega) (fun z => (pr_tf z hn).elim) (fun _ => br_t rfl ?_))) (fun z => (pr_tf hm z).elim)
  exact pk_eq (pr_cnt M 64) 24 (fun z => absurd z (by omega)) (fun _ => pr_mayWrite h' (by omega) (fun w => pr_content h' (by omega) hm (pr_bringIn h' (by omega) hn hc H))) huc
theorem pr_dup_n {post : Int32 → St2 → Prop} {x : Nat} (h : pr_I M V u) (hx : x < 32) (hm : M x = false) (H : post (-3) u) : wpX_duplicate post u 0 (nI x) := by
  have h' := h
  obtain ⟨B, T, O, uc, ck, a1, a2, a3, a4, a5, a6, a7, a8, a9, rfl, huc, hG, hA, h5⟩ := h
  unfold wpX_duplicate
  dsimp only
  refine pr_space0 (br_f (by decide) (pr_page hx (br_f (by decide) (nm_r (pr_s0 x) (nm_r (pr_s1m x) ?_)))))
  exact pr_has h' (by omega) (fun z => (pr_tf z hm).elim) (fun _ => br_t rfl H)
theorem pr_exch_n {post : Int32 → St2 → Prop} {x : Nat} (h : pr_I M V u) (hx : x < 32) (hm : M x = false) (hn : M (32 + x) = false) (H : post 0 u) : wpX_exchange post u (nI x) := by
  have h' := h
  obtain ⟨B, T, O, uc, ck, a1, a2, a3, a4, a5, a6, a7, a8, a9, rfl, huc, hG, hA, h5⟩ := h
  unfold wpX_exchange
  dsimp only
  refine pr_page hx (br_f (by decide) (nm_r (pr_s2 x) (pr_has h' (by omega) (fun z => (pr_tf z hm).elim) (fun _ => br_t rfl ?_))))
  unfold wX_exchange_92
  exact pr_has h' (by omega) (fun z => (pr_tf z hm).elim) (fun _ => br_t rfl (pr_has h' (by omega) (fun z => (pr_tf z hn).elim) (fun _ => br_t rfl H)))
theorem pr_exch_y {post : Int32 → St2 → Prop} {x : Nat} (h : pr_I M V u) (hx : x < 32) (hm : M x = true) (hn : M (32 + x) = true) (H : ∀ u', pr_I M (upd (upd V x (V (32 + x))) (32 + x) (V x)) u' → post 0 u') : wpX_exchange post u (nI x) := by
  have h' := h
  obtain ⟨B, T, O, uc, ck, a1, a2, a3, a4, a5, a6, a7, a8, a9, rfl, huc, hG, hA, h5⟩ := h
  have ht := (hG.1 x (by omega) (Or.inl hm)).1
  unfold wpX_exchange
  dsimp only
  refine pr_page hx (br_f (by decide) (nm_r (pr_s2 x) (pr_has h' (by omega) (fun _ => br_f (by decide) ?_) (fun z => (pr_tf hm z).elim))))
  refine pr_has h' (by omega) (fun _ => br_f (by decide) ?_) (fun z => (pr_tf hn z).elim)
  refine pr_content h' (by omega) hm (pr_mayWrite h' (by omega) (fun w1 => pr_mayWrite h' (by omega) (fun w2 => pr_tr hG hA (by omega) hm (pr_content h' (by omega) hn ⟨pk_in (T x) 48 (by omega), ?_⟩))))
  rw [nI_clamp (show T x < 2 ^ 31 by omega)]
  refine nm_e ?_
  have hI2 : pr_I M (upd V x (V (32 + x))) (24, uc, ck, upd a1 (T x) (V (32 + x)), a2, a3, a4, a5, a6, a7, a8, a9) := ⟨B, T, O, uc, ck, _, a2, a3, a4, a5, a6, a7, a8, a9, rfl, huc, hG, pr_A_val hG hA (by omega) hm, h5⟩
  exact pr_setContent hI2 (by omega) hn (fun u1 hu1 => pr_setWrite (u := u1) hu1 (by omega) (fun u2 hu2 => pr_setWrite (u := u2) hu2 (by omega) H))
theorem pr_read0 {post : Int32 → Prop} {x : Nat} (h : pr_I M V u) (hx : x < 32) (H : post (if M x then V x else 0)) : wpX_read post u 0 (nI x) := by
  have h' := h
  obtain ⟨B, T, O, uc, ck, a1, a2, a3, a4, a5, a6, a7, a8, a9, rfl, huc, hG, hA, h5⟩ := h
  unfold wpX_read
  dsimp only
  refine pr_space0 (br_f (by decide) (pr_page hx (br_f (by decide) (nm_r (pr_s0 x) ?_))))
  refine pr_has h' (by omega) (fun z => br_f (by decide) (pr_content h' (by omega) z ?_)) (fun z => br_t rfl ?_)
  · rw [if_pos z] at H
    exact H
  · rw [z, if_neg (by decide)] at H
    exact H
theorem pr_read1 {post : Int32 → Prop} {x : Nat} (h : pr_I M V u) (hx : x < 32) (H : post (if M (32 + x) then V (32 + x) else 0)) : wpX_read post u 1 (nI x) := by
  have h' := h
  obtain ⟨B, T, O, uc, ck, a1, a2, a3, a4, a5, a6, a7, a8, a9, rfl, huc, hG, hA, h5⟩ := h
  unfold wpX_read
  dsimp only
  refine pr_space1 (br_f (by decide) (pr_page hx (br_f (by decide) (nm_r (pr_s1 x) ?_))))
  refine pr_has h' (by omega) (fun z => br_f (by decide) (pr_content h' (by omega) z ?_)) (fun z => br_t rfl ?_)
  · rw [if_pos z] at H
    exact H
  · rw [z, if_neg (by decide)] at H
    exact H
theorem pr_mapped0 {post : Int32 → Prop} {x : Nat} (h : pr_I M V u) (hx : x < 32) (H : post (if M x then 1 else 0)) : wpX_mapped post u 0 (nI x) := by
  have h' := h
  obtain ⟨B, T, O, uc, ck, a1, a2, a3, a4, a5, a6, a7, a8, a9, rfl, huc, hG, hA, h5⟩ := h
  unfold wpX_mapped
  dsimp only
  rw [pr_s0]
  refine pr_space0 (br_f (by decide) (pr_page hx (br_f (by decide) ?_)))
  refine pr_has h' (by omega) (fun z => br_f (by decide) ?_) (fun z => br_t rfl ?_)
  · rw [if_pos z] at H
    exact H
  · rw [z, if_neg (by decide)] at H
    exact H
theorem pr_mapped1 {post : Int32 → Prop} {x : Nat} (h : pr_I M V u) (hx : x < 32) (H : post (if M (32 + x) then 1 else 0)) : wpX_mapped post u 1 (nI x) := by
  have h' := h
  obtain ⟨B, T, O, uc, ck, a1, a2, a3, a4, a5, a6, a7, a8, a9, rfl, huc, hG, hA, h5⟩ := h
  unfold wpX_mapped
  dsimp only
  rw [pr_s1]
  refine pr_space1 (br_f (by decide) (pr_page hx (br_f (by decide) ?_)))
  refine pr_has h' (by omega) (fun z => br_f (by decide) ?_) (fun z => br_t rfl ?_)
  · rw [if_pos z] at H
    exact H
  · rw [z, if_neg (by decide)] at H
    exact H
theorem pr_sum0 {post : Int32 → Prop} (h : pr_I M V u) (H : post (pr_sm M V 32)) : wpX_sum post u 0 := by
  have h' := h
  obtain ⟨B, T, O, uc, ck, a1, a2, a3, a4, a5, a6, a7, a8, a9, rfl, huc, hG, hA, h5⟩ := h
  unfold wpX_sum
  dsimp only
  refine pr_space0 (br_f (by decide) (nm_r (e' := nI 0) rfl ?_))
  refine pk_loop (σ := Unit) (fun m i _ => wX_sum_16 post 0 24 uc ck a1 a2 a3 a4 a5 a6 a7 a8 a9 m (pr_sm M V i) (nI i)) (fun _ _ => True) 32 0 () (by omega) trivial ?_ ?_
  · intro m _ _
    exact pk_le 32 32 (fun _ => H) (fun z => absurd z (by omega))
  · intro m i _ hi _ hw
    have t : wX_sum_16 post 0 24 uc ck a1 a2 a3 a4 a5 a6 a7 a8 a9 m (pr_sm M V i + (if M i then V i else 0)) (nI (i + 1)) := hw () trivial
    refine pk_le 32 i (fun z => absurd z (by omega)) (fun _ => pr_has h' (by omega) (fun z => br_f (by decide) (pr_content h' (by omega) z ?_)) (fun z => br_t rfl ?_))
    · rw [if_pos z] at t
      exact nm_e (nm_r (nI_1 i) t)
    · rw [z, if_neg (by decide), Int32.add_zero] at t
      exact nm_r (nI_1 i) t
end
end
section
def pr_tri : Nat → Nat
  | 0 => 0
  | k + 1 => pr_tri k + k
theorem pr_triE : ∀ n, n < 16 → (nI n * (nI n - 1)) / 2 = nI (pr_tri n) := by decide +kernel
theorem pr_go0 (v : Int32) (n : Nat) : pr_go v 0 n = nI n * v + nI (pr_tri n) := by
  induction n with
  | zero =>
    show (0 : Int32) = nI 0 * v + nI 0
    rw [nI_0]
    grind
  | succ n ih =>
    show pr_go v 0 n + (v + nI (0 + n)) = nI (n + 1) * v + nI (pr_tri n + n)
    rw [ih, Nat.zero_add, nI_succ, ← nI_add]
    grind
theorem pr_vs {a b : Nat} (v : Int32) (h : b ≤ a) : (v + nI a) - nI b = v + nI (a - b) := by
  rw [← pk_sub h]
  grind
theorem pr_vs2 {a b i : Nat} (v : Int32) (h : b ≤ a) : ((v + nI a) - nI b) + nI i = v + nI (a - b + i) := by
  rw [pr_vs v h, ← nI_add]
  grind
theorem pr_sm_st {M : Nat → Bool} {V : Nat → Int32} {p n : Nat} {v : Int32} (hpn : p + n ≤ 32) (hM : ∀ j, j < 64 → (M j = true ↔ p ≤ j ∧ j < p + n)) (hV : ∀ j, j < n → V (p + j) = v + nI j) : pr_sm M V 32 = nI n * v + nI (pr_tri n) := by
  have hA : ∀ k, k ≤ p → pr_sm M V k = 0 := by
    intro k
    induction k with
    | zero => exact fun _ => rfl
    | succ k ih =>
      intro hk
      show pr_sm M V k + (if M k then V k else 0) = 0
      rw [ih (by omega), if_neg (fun z => absurd ((hM k (by omega)).mp z) (by omega))]
      rfl
  have hB : ∀ i, i ≤ n → pr_sm M V (p + i) = pr_go v 0 i := by
    intro i
    induction i with
    | zero => exact fun _ => hA p (Nat.le_refl p)
    | succ i ih =>
      intro hi
      show pr_sm M V (p + i) + (if M (p + i) then V (p + i) else 0) = pr_go v 0 i + (v + nI (0 + i))
      rw [ih (by omega), if_pos ((hM (p + i) (by omega)).mpr (by omega)), hV i (by omega), Nat.zero_add]
  have hC : ∀ k, p + n + k ≤ 32 → pr_sm M V (p + n + k) = pr_go v 0 n := by
    intro k
    induction k with
    | zero => exact fun _ => hB n (Nat.le_refl n)
    | succ k ih =>
      intro hk
      show pr_sm M V (p + n + k) + (if M (p + n + k) then V (p + n + k) else 0) = pr_go v 0 n
      rw [ih (by omega), if_neg (fun z => absurd ((hM (p + n + k) (by omega)).mp z) (by omega)), Int32.add_zero]
  have e := hC (32 - (p + n)) (by omega)
  rw [show p + n + (32 - (p + n)) = 32 by omega] at e
  rw [e, pr_go0]
/-- a flag -/
def pr_fl (b : Bool) : Int32 := if b then 1 else 0
def pr_R (p n h g f c : Nat) : Prop := p ≤ 15 ∧ 8 ≤ n ∧ n ≤ 15 ∧ p ≤ h ∧ h ≤ p + 7 ∧ 1 ≤ g ∧ g ≤ 4 ∧ p ≤ f ∧ f ≤ p + 7 ∧ c = min g (p + n - h)
/-- what the pages of space 0 hold in the end -/
def pr_F (M : Nat → Bool) (V : Nat → Int32) (v : Int32) (p n h g f c : Nat) (th : Bool) : Prop :=
  (∀ j, p ≤ j → j < p + 8 → (M j = true ↔ ¬ (h ≤ j ∧ j < h + g) ∧ ¬ (th = true ∧ j = f))) ∧
  (∀ i, i < 8 → M (p + i) = true → V (p + i) = v + nI i) ∧
  M 31 = th ∧ (th = true → V 31 = v + nI (f - p)) ∧
  pr_sm M V 32 + pr_go v (h - p) c = nI n * v + nI (pr_tri n)
section
variable {post : Int32 → St0 → Prop} {mc ms kc ks : Nat} {fc uc ck : Int32} {a1 a2 a3 a4 a5 a6 a7 a8 a9 : Nat → Int32} {M : Nat → Bool} {V : Nat → Int32} {v : Int32} {p n h g f c : Nat} {th : Bool}
theorem pr_used {post : Int32 → Prop} {u : St2} (hI : pr_I M V u) (H : post (nI (pr_cnt M 64))) : wpX_used post u := by
  obtain ⟨B, T, O, uc, ck, a1, a2, a3, a4, a5, a6, a7, a8, a9, rfl, huc, hG, hA, h5⟩ := hI
  rw [← huc] at H
  exact H
theorem pr_l518 (hI : pr_I M V (fc, uc, ck, a1, a2, a3, a4, a5, a6, a7, a8, a9)) (hR : pr_R p n h g f c) (hs : pr_sm M V 32 + pr_go v (h - p) c = nI n * v + nI (pr_tri n)) (hpost : post 1 ()) : ∃ k, wL_lawOf_518 post mc ms v (nI p) (nI n) (nI h) (nI c) kc ks fc uc ck a1 a2 a3 a4 a5 a6 a7 a8 a9 k 0 0 := by
  obtain ⟨r1, r2, r3, r4, r5, r6, r7, r8, r9, r10⟩ := hR
  have L := pk_loop (σ := Unit) (fun m i _ => wL_lawOf_518 post mc ms v (nI p) (nI n) (nI h) (nI c) kc ks fc uc ck a1 a2 a3 a4 a5 a6 a7 a8 a9 m (pr_go v (h - p) (min i c)) (nI i)) (fun _ _ => True) 4 0 () (by omega) trivial ?_ ?_
  · obtain ⟨k, hk⟩ := L
    have hk' : wL_lawOf_518 post mc ms v (nI p) (nI n) (nI h) (nI c) kc ks fc uc ck a1 a2 a3 a4 a5 a6 a7 a8 a9 k (pr_go v (h - p) (min 0 c)) (nI 0) := hk
    rw [Nat.zero_min] at hk'
    exact ⟨k, hk'⟩
  · intro m _ _
    show wL_lawOf_518 post mc ms v (nI p) (nI n) (nI h) (nI c) kc ks fc uc ck a1 a2 a3 a4 a5 a6 a7 a8 a9 (m + 1) (pr_go v (h - p) (min 4 c)) (nI 4)
    rw [show min 4 c = c by omega]
    refine pk_le 4 4 (fun _ => pr_sum0 hI ⟨by decide, br_t ?_ hpost⟩) (fun z => absurd z (by omega))
    rw [pr_triE n (by omega), ← hs]
    grind
  · intro m i _ hi _ hw
    have t : wL_lawOf_518 post mc ms v (nI p) (nI n) (nI h) (nI c) kc ks fc uc ck a1 a2 a3 a4 a5 a6 a7 a8 a9 m (pr_go v (h - p) (min (i + 1) c)) (nI (i + 1)) := hw () trivial
    show wL_lawOf_518 post mc ms v (nI p) (nI n) (nI h) (nI c) kc ks fc uc ck a1 a2 a3 a4 a5 a6 a7 a8 a9 (m + 1) (pr_go v (h - p) (min i c)) (nI i)
    refine pk_le 4 i (fun z => absurd z (by omega)) (fun _ => pk_le c i (fun z => nm_r (nI_1 i) ?_) (fun z => nm_r (e' := pr_go v (h - p) (min (i + 1) c)) ?_ (nm_r (nI_1 i) t)))
    · rw [show min (i + 1) c = min i c by omega] at t
      exact t
    · rw [show min (i + 1) c = i + 1 by omega, show min i c = i by omega, pr_vs2 v r4]
      rfl
theorem pr_l426 {J : Int32 → Prop} {y13 : Int32} {i : Nat} (st : Bool) (hI : pr_I M V (fc, uc, ck, a1, a2, a3, a4, a5, a6, a7, a8, a9)) (hq : p + i < 32) (hm : M (p + i) = st) (hv : st = true → V (p + i) = v + nI i) (HJ : J (nI (i + 1))) : wL_lawOf_426 post mc ms J v (nI p) (nI n) (nI h) (nI g) (nI c) (nI f) y13 (nI i) (nI (p + i)) (pr_fl st) kc ks fc uc ck a1 a2 a3 a4 a5 a6 a7 a8 a9 := by
  refine pr_mapped0 hI hq ?_
  rw [hm]
  cases st
  · refine br_t rfl (br_t rfl (pr_read0 hI hq ?_))
    rw [hm]
    exact br_t rfl (br_t rfl (nm_r (nI_1 i) HJ))
  · refine br_f (by decide) (br_t rfl (pr_read0 hI hq ?_))
    rw [hm, hv rfl]
    exact br_f (by decide) (br_t rfl (nm_r (nI_1 i) HJ))
theorem pr_l378 (hI : pr_I M V (fc, uc, ck, a1, a2, a3, a4, a5, a6, a7, a8, a9)) (hR : pr_R p n h g f c) (hF : pr_F M V v p n h g f c th) (hpost : post 1 ()) : ∃ k, wL_lawOf_378 post mc ms v (nI p) (nI n) (nI h) (nI g) (nI c) (nI f) (pr_fl th) kc ks fc uc ck a1 a2 a3 a4 a5 a6 a7 a8 a9 k 0 := by
  have hR' := hR
  obtain ⟨r1, r2, r3, r4, r5, r6, r7, r8, r9, r10⟩ := hR
  obtain ⟨hM, hV, hM31, hV31, hs⟩ := hF
  refine pk_loop (σ := Unit) (fun m i _ => wL_lawOf_378 post mc ms v (nI p) (nI n) (nI h) (nI g) (nI c) (nI f) (pr_fl th) kc ks fc uc ck a1 a2 a3 a4 a5 a6 a7 a8 a9 m (nI i)) (fun _ _ => True) 8 0 () (by omega) trivial ?_ ?_
  · intro m _ _
    refine pk_le 8 8 (fun _ => pr_read0 (x := 31) hI (by omega) ?_) (fun z => absurd z (by omega))
    rw [hM31]
    have t := pr_l518 (mc := mc) (ms := ms) (kc := kc) (ks := ks) hI hR' hs hpost
    cases th
    · exact br_t rfl (br_t rfl t)
    · refine br_f (by decide) (br_t ?_ t)
      rw [pr_vs v r8]
      exact hV31 rfl
  · intro m i _ hi _ hw
    have HJ : wL_lawOf_378 post mc ms v (nI p) (nI n) (nI h) (nI g) (nI c) (nI f) (pr_fl th) kc ks fc uc ck a1 a2 a3 a4 a5 a6 a7 a8 a9 m (nI (i + 1)) := hw () trivial
    have hi2 := hM (p + i) (by omega) (by omega)
    have yes : M (p + i) = true → wL_lawOf_426 post mc ms (wL_lawOf_378 post mc ms v (nI p) (nI n) (nI h) (nI g) (nI c) (nI f) (pr_fl th) kc ks fc uc ck a1 a2 a3 a4 a5 a6 a7 a8 a9 m) v (nI p) (nI n) (nI h) (nI g) (nI c) (nI f) (pr_fl th) (nI i) (nI (p + i)) 1 kc ks fc uc ck a1 a2 a3 a4 a5 a6 a7 a8 a9 := fun e => pr_l426 true hI (by omega) e (fun _ => hV i hi e) HJ
    have no : ¬ M (p + i) = true → wL_lawOf_426 post mc ms (wL_lawOf_378 post mc ms v (nI p) (nI n) (nI h) (nI g) (nI c) (nI f) (pr_fl th) kc ks fc uc ck a1 a2 a3 a4 a5 a6 a7 a8 a9 m) v (nI p) (nI n) (nI h) (nI g) (nI c) (nI f) (pr_fl th) (nI i) (nI (p + i)) 0 kc ks fc uc ck a1 a2 a3 a4 a5 a6 a7 a8 a9 := fun e => pr_l426 false hI (by omega) (pr_nt e) (fun z => Bool.noConfusion z) HJ
    have mid : ¬ (h ≤ p + i ∧ p + i < h + g) → wL_lawOf_409 post mc ms (wL_lawOf_378 post mc ms v (nI p) (nI n) (nI h) (nI g) (nI c) (nI f) (pr_fl th) kc ks fc uc ck a1 a2 a3 a4 a5 a6 a7 a8 a9 m) v (nI p) (nI n) (nI h) (nI g) (nI c) (nI f) (pr_fl th) (nI i) (nI (p + i)) kc ks fc uc ck a1 a2 a3 a4 a5 a6 a7 a8 a9 := fun e => by
      cases th
      · exact br_t rfl (yes (hi2.mpr ⟨e, fun z => Bool.noConfusion z.1⟩))
      · exact br_f (by decide) (pk_eq (p + i) f (fun z => no (fun y => (hi2.mp y).2 ⟨rfl, z⟩)) (fun z => yes (hi2.mpr ⟨e, fun y => z y.2⟩)))
    refine pk_le 8 i (fun z => absurd z (by omega)) (fun _ => nm_r (nI_add p i) (pk_lt (p + i) h (fun z => mid (by omega)) (fun z => pk_lt (p + i) (h + g) (fun z2 => no (fun y => (hi2.mp y).1 ⟨z, z2⟩)) (fun z2 => mid (by omega)) rfl (nI_add h g))))
theorem pr_l254 {x : Nat} (hI : pr_I M V (fc, uc, ck, a1, a2, a3, a4, a5, a6, a7, a8, a9)) (hR : pr_R p n h g f c) (hF : pr_F M V v p n h g f c th) (hx1 : p ≤ x) (hx2 : x ≤ p + 7) (hM2 : ∀ j, j < 32 → M (32 + j) = false) (hcn : pr_cnt M 64 = n - c) (hpost : post 1 ()) : wL_lawOf_254 post mc ms v (nI p) (nI n) (nI h) (nI g) (nI c) (nI (n - c)) (nI f) (pr_fl th) (nI x) (pr_fl (M x)) 1 kc ks fc uc ck a1 a2 a3 a4 a5 a6 a7 a8 a9 := by
  have hR' := hR
  obtain ⟨r1, r2, r3, r4, r5, r6, r7, r8, r9, r10⟩ := hR
  have hn := hM2 x (by omega)
  cases hm : M x
  · refine pr_dup_n hI (by omega) hm (br_t rfl (br_t rfl (pr_used hI (br_t rfl (br_t ?_ (pr_exch_n hI (by omega) hm hn (br_t rfl (pr_read1 hI (by omega) ?_))))))))
    · rw [hcn, Int32.add_zero]
    · rw [hn]
      refine br_t rfl (br_t rfl (pr_mapped1 hI (by omega) ?_))
      rw [hn]
      exact br_t rfl (br_t rfl (pr_l378 hI hR' hF hpost))
  · refine pr_dup_y hI (by omega) hm hn (by omega) (fun u1 hu1 => ?_)
    obtain ⟨d0, d1, d2, e1, e2, e3, e4, e5, e6, e7, e8, e9⟩ := u1
    have hs1 : pr_set M (32 + x) true x = true := by
      rw [pr_set_n (by omega)]
      exact hm
    refine br_f (by decide) (br_f (by decide) (br_t rfl (pr_used hu1 (br_f (by decide) (br_t ?_ (pr_exch_y hu1 (by omega) hs1 pr_set_s (fun u2 hu2 => ?_)))))))
    · rw [pr_cnt_t hn 64 (by omega), hcn, nI_1]
    · obtain ⟨b0, b1, b2, g1, g2, g3, g4, g5, g6, g7, g8, g9⟩ := u2
      have hvx : V x = v + nI (x - p) := by
        have e := hF.2.1 (x - p) (by omega)
        rw [show p + (x - p) = x by omega] at e
        exact e hm
      have hlo : ∀ j, j < 32 → upd (upd (upd V (32 + x) (V x)) x (upd V (32 + x) (V x) (32 + x))) (32 + x) (upd V (32 + x) (V x) x) j = V j := fun j hj => by
        rw [pk_un (by omega)]
        by_cases e : j = x
        · rw [e, pk_us, pk_us]
        · rw [pk_un e, pk_un (by omega)]
      have hF2 : pr_F (pr_set M (32 + x) true) (upd (upd (upd V (32 + x) (V x)) x (upd V (32 + x) (V x) (32 + x))) (32 + x) (upd V (32 + x) (V x) x)) v p n h g f c th := by
        obtain ⟨f1, f2, f3, f4, f5⟩ := hF
        refine ⟨fun j h1 h2 => ?_, fun i hi hm2 => ?_, ?_, fun hth => ?_, ?_⟩
        · rw [pr_set_n (by omega)]
          exact f1 j h1 h2
        · rw [pr_set_n (by omega)] at hm2
          rw [hlo _ (by omega)]
          exact f2 i hi hm2
        · rw [pr_set_n (by omega)]
          exact f3
        · rw [hlo _ (by omega)]
          exact f4 hth
        · rw [pr_sm_M (M' := M) 32 (fun j hj => pr_set_n (by omega)), pr_sm_V (V' := V) 32 (fun j hj _ => hlo j hj)]
          exact f5
      refine br_t rfl (pr_read1 hu2 (by omega) ?_)
      rw [pr_set_s, pk_us, pk_un (show x ≠ 32 + x by omega), hvx]
      refine br_f (by decide) (br_t ?_ (pr_mapped1 hu2 (by omega) ?_))
      · rw [pr_vs v hx1]
        rfl
      · rw [pr_set_s]
        exact br_f (by decide) (br_t rfl (pr_l378 hu2 hR' hF2 hpost))
theorem pr_l191 {x4 z : Int32} (hI : pr_I M V (fc, uc, ck, a1, a2, a3, a4, a5, a6, a7, a8, a9)) (hR : pr_R p n h g f c) (hF : pr_F M V v p n h g f c th) (hM2 : ∀ j, j < 32 → M (32 + j) = false) (hcn : pr_cnt M 64 = n - c) (hpost : post 1 ()) : wL_lawOf_191 post mc ms v x4 (nI p) (nI n) (nI h) (nI g) (nI c) (nI (n - c)) (nI f) (pr_fl th) z z kc ks fc uc ck a1 a2 a3 a4 a5 a6 a7 a8 a9 := by
  have hR' := hR
  obtain ⟨r1, r2, r3, r4, r5, r6, r7, r8, r9, r10⟩ := hR
  obtain ⟨k, hk, ek⟩ := pk_andE x4 (m := 7) 3 (by decide)
  have hk' : k < 8 := hk
  have hi2 := hF.1 (p + k) (by omega) (by omega)
  have L := pr_l254 (mc := mc) (ms := ms) (kc := kc) (ks := ks) (x := p + k) hI hR' hF (by omega) (by omega) hM2 hcn hpost
  have L2 : wL_lawOf_240 post mc ms v (nI p) (nI n) (nI h) (nI g) (nI c) (nI (n - c)) (nI f) (pr_fl th) (nI (p + k)) (pr_fl (M (p + k))) kc ks fc uc ck a1 a2 a3 a4 a5 a6 a7 a8 a9 := pk_le 24 (n - c) (fun z => absurd z (by omega)) (fun _ => L)
  have yes : M (p + k) = true → wL_lawOf_240 post mc ms v (nI p) (nI n) (nI h) (nI g) (nI c) (nI (n - c)) (nI f) (pr_fl th) (nI (p + k)) 1 kc ks fc uc ck a1 a2 a3 a4 a5 a6 a7 a8 a9 := fun e => by
    rw [e] at L2
    exact L2
  have no : ¬ M (p + k) = true → wL_lawOf_240 post mc ms v (nI p) (nI n) (nI h) (nI g) (nI c) (nI (n - c)) (nI f) (pr_fl th) (nI (p + k)) 0 kc ks fc uc ck a1 a2 a3 a4 a5 a6 a7 a8 a9 := fun e => by
    rw [pr_nt e] at L2
    exact L2
  have mid : ¬ (h ≤ p + k ∧ p + k < h + g) → wL_lawOf_223 post mc ms v (nI p) (nI n) (nI h) (nI g) (nI c) (nI (n - c)) (nI f) (pr_fl th) (nI (p + k)) kc ks fc uc ck a1 a2 a3 a4 a5 a6 a7 a8 a9 := fun e => by
    cases th
    · exact br_t rfl (yes (hi2.mpr ⟨e, fun z => Bool.noConfusion z.1⟩))
    · exact br_f (by decide) (pk_eq (p + k) f (fun z => no (fun y => (hi2.mp y).2 ⟨rfl, z⟩)) (fun z => yes (hi2.mpr ⟨e, fun y => z y.2⟩)))
  exact br_t rfl (nm_r (e' := nI (p + k)) (by rw [ek, nI_add]) (pk_lt (p + k) h (fun z => mid (by omega)) (fun z => pk_lt (p + k) (h + g) (fun z2 => no (fun y => (hi2.mp y).1 ⟨z, z2⟩)) (fun z2 => mid (by omega)) rfl (nI_add h g))))
theorem pr_l168 {x4 : Int32} (hI : pr_I M V (fc, uc, ck, a1, a2, a3, a4, a5, a6, a7, a8, a9)) (hR : pr_R p n h g f c) (hth : th = true ↔ ¬ (h ≤ f ∧ f < h + g)) (hM : ∀ j, j < 64 → (M j = true ↔ (p ≤ j ∧ j < p + n) ∧ ¬ (h ≤ j ∧ j < h + g))) (hV : ∀ j, j < n → V (p + j) = v + nI j) (hcn : pr_cnt M 64 = n - c) (hs : pr_sm M V 32 + pr_go v (h - p) c = nI n * v + nI (pr_tri n)) (hpost : post 1 ()) : wL_lawOf_168 post mc ms v x4 (nI p) (nI n) (nI h) (nI g) (nI c) (nI (n - c)) (nI f) (pr_fl th) kc ks fc uc ck a1 a2 a3 a4 a5 a6 a7 a8 a9 := by
  have hR' := hR
  obtain ⟨r1, r2, r3, r4, r5, r6, r7, r8, r9, r10⟩ := hR
  have h31 : M 31 = false := pr_nt (fun z => absurd ((hM 31 (by omega)).mp z) (by omega))
  have hM2 : ∀ j, j < 32 → M (32 + j) = false := fun j hj => pr_nt (fun z => absurd ((hM (32 + j) (by omega)).mp z) (by omega))
  have hfi := hM f (by omega)
  cases hb : th
  · rw [hb] at hth
    have hf : ¬ M f = true := fun z => Bool.noConfusion (hth.mpr (hfi.mp z).2)
    refine pr_remap_n hI (by omega) (pr_nt hf) (br_t rfl (pr_l191 hI hR' ⟨fun j h1 h2 => ?_, fun i hi _ => hV i (by omega), h31, fun z => Bool.noConfusion z, hs⟩ hM2 hcn hpost))
    rw [hM j (by omega)]
    exact ⟨fun z => ⟨z.2, fun y => Bool.noConfusion y.1⟩, fun z => ⟨by omega, z.1⟩⟩
  · rw [hb] at hth
    have hf : M f = true := hfi.mpr ⟨by omega, hth.mp rfl⟩
    refine pr_remap_y hI (by omega) hf h31 (by omega) (fun u' hu' => ?_)
    obtain ⟨d0, d1, d2, e1, e2, e3, e4, e5, e6, e7, e8, e9⟩ := u'
    have h31' : pr_set M f false 31 = false := by
      rw [pr_set_n (by omega)]
      exact h31
    have hc1 := pr_cnt_f hf 64 (by omega)
    have hvf : V f = v + nI (f - p) := by
      have e := hV (f - p) (by omega)
      rw [show p + (f - p) = f by omega] at e
      exact e
    refine br_f (by decide) (pr_l191 hu' hR' ⟨fun j h1 h2 => ?_, fun i hi hm2 => ?_, pr_set_s, fun _ => ?_, ?_⟩ (fun j hj => ?_) ?_ hpost)
    · rw [pr_set_n (show j ≠ 31 by omega)]
      by_cases e : j = f
      · rw [e, pr_set_s]
        exact ⟨fun z => Bool.noConfusion z, fun z => absurd ⟨rfl, rfl⟩ z.2⟩
      · rw [pr_set_n e, hM j (by omega)]
        exact ⟨fun z => ⟨z.2, fun y => e y.2⟩, fun z => ⟨by omega, z.1⟩⟩
    · rw [pk_un (by omega)]
      exact hV i (by omega)
    · rw [pk_us]
      exact hvf
    · have s1 := pr_sm_f (V := V) hf 32 (by omega)
      have s2 := pr_sm_t (V := V) (v := V f) h31' 32 (by omega)
      rw [s2, s1]
      exact hs
    · rw [pr_set_n (show 32 + j ≠ 31 by omega), pr_set_n (show 32 + j ≠ f by omega)]
      exact hM2 j hj
    · rw [pr_cnt_t h31' 64 (by omega), hc1]
      exact hcn
theorem pr_l111 {x3 x4 : Int32} (hI : pr_I M V (fc, uc, ck, a1, a2, a3, a4, a5, a6, a7, a8, a9)) (r1 : p ≤ 15) (r2 : 8 ≤ n) (r3 : n ≤ 15) (r4 : p ≤ h) (r5 : h ≤ p + 7) (r6 : 1 ≤ g) (r7 : g ≤ 4) (r10 : c = min g (p + n - h)) (hM : ∀ j, j < 64 → (M j = true ↔ p ≤ j ∧ j < p + n)) (hV : ∀ j, j < n → V (p + j) = v + nI j) (hcn : pr_cnt M 64 = n) (hpost : post 1 ()) : wL_lawOf_111 post mc ms v x3 x4 (nI p) (nI n) (nI h) (nI g) (nI c) kc ks fc uc ck a1 a2 a3 a4 a5 a6 a7 a8 a9 := by
  obtain ⟨k, hk, ek⟩ := pk_andE x3 (m := 7) 3 (by decide)
  have hk' : k < 8 := hk
  have hsm := pr_sm_st (v := v) (show p + n ≤ 32 by omega) hM hV
  refine pr_unmap (v := v) hI r6 (by omega) r4 (by omega) hM hV (fun u' M' hu' hM' hc hs => ?_)
  obtain ⟨d0, d1, d2, e1, e2, e3, e4, e5, e6, e7, e8, e9⟩ := u'
  rw [← r10] at hc hs ⊢
  have hR : pr_R p n h g (p + k) c := ⟨r1, r2, r3, r4, r5, r6, r7, by omega, by omega, r10⟩
  have hM3 : ∀ j, j < 64 → (M' j = true ↔ (p ≤ j ∧ j < p + n) ∧ ¬ (h ≤ j ∧ j < h + g)) := fun j hj => by
    rw [hM' j hj, hM j hj]
  have yes : ¬ (h ≤ p + k ∧ p + k < h + g) → wL_lawOf_168 post mc ms v x4 (nI p) (nI n) (nI h) (nI g) (nI c) (nI (n - c)) (nI (p + k)) 1 kc ks d0 d1 d2 e1 e2 e3 e4 e5 e6 e7 e8 e9 := fun e => pr_l168 (th := true) hu' hR ⟨fun _ => e, fun _ => rfl⟩ hM3 hV (by omega) (by rw [hs]; exact hsm) hpost
  have no : (h ≤ p + k ∧ p + k < h + g) → wL_lawOf_168 post mc ms v x4 (nI p) (nI n) (nI h) (nI g) (nI c) (nI (n - c)) (nI (p + k)) 0 kc ks d0 d1 d2 e1 e2 e3 e4 e5 e6 e7 e8 e9 := fun e => pr_l168 (th := false) hu' hR ⟨fun z => Bool.noConfusion z, fun z => absurd e z⟩ hM3 hV (by omega) (by rw [hs]; exact hsm) hpost
  exact br_t rfl (nm_r (pk_sub (by omega)) (nm_r (e' := nI (p + k)) (by rw [ek, nI_add]) (pk_lt (p + k) h (fun z => yes (by omega)) (fun z => pk_lt (p + k) (h + g) (fun z2 => no ⟨z, z2⟩) (fun z2 => yes (by omega)) rfl (nI_add h g)))))
end
theorem pr_lawOf {post : Int32 → St0 → Prop} {p0 v p2 p3 p4 : Int32} (hpost : post 1 ()) : wpL_lawOf post 10 460 () p0 v p2 p3 p4 := by
  obtain ⟨p, hp, ep⟩ := pk_andE p0 (m := 15) 4 (by decide)
  have hp' : p < 16 := hp
  obtain ⟨k, hk, ek⟩ := pk_andE (p0 >>> ((4 : Int32) &&& 31)) (m := 7) 3 (by decide)
  have hk' : k < 8 := hk
  obtain ⟨i, hi, ei⟩ := pk_andE p2 (m := 7) 3 (by decide)
  have hi' : i < 8 := hi
  obtain ⟨j, hj, ej⟩ := pk_andE (p2 >>> ((3 : Int32) &&& 31)) (m := 3) 2 (by decide)
  have hj' : j < 4 := hj
  unfold wpL_lawOf
  refine nm_r ep (nm_r (e' := nI (8 + k)) ?_ (nm_r (e' := nI (p + i)) ?_ (nm_r (e' := nI (1 + j)) ?_ ⟨by omega, by omega, 9, 448, by omega, by omega, ?_⟩)))
  · rw [ek]
    exact nI_add 8 k
  · rw [ei, nI_add]
  · rw [ej]
    exact nI_add 1 j
  have e64 : (64 : Int32) * nI p + nI (8 + k) = nI (64 * p + (8 + k)) := by
    show nI 64 * nI p + nI (8 + k) = _
    rw [pk_mul, nI_add]
  rw [e64]
  refine pr_init (by omega) (by omega) (fun u hu => ?_)
  obtain ⟨b0, b1, b2, g1, g2, g3, g4, g5, g6, g7, g8, g9⟩ := u
  refine pr_map0 hu (by omega) (by omega) (by omega) (fun u1 M1 V1 hu1 hM1 hc1 => ?_)
  obtain ⟨c0, c1, c2, f1, f2, f3, f4, f5, f6, f7, f8, f9⟩ := u1
  refine br_t rfl (pr_stamp hu1 (by omega) (by omega) (fun j hj => (hM1 (p + j) (by omega)).mpr (by omega)) (fun u2 V2 hu2 hV2 => ?_))
  obtain ⟨d0, d1, d2, e1, e2, e3, e4, e5, e6, e7, e8, e9⟩ := u2
  refine br_t rfl (pk_lt (p + (8 + k)) (p + i + (1 + j)) (fun z => ?_) (fun z => ?_) (nI_add _ _) (nI_add _ _))
  · rw [nI_add, pk_sub (by omega)]
    exact pr_l111 hu2 (by omega) (by omega) (by omega) (by omega) (by omega) (by omega) (by omega) (by omega) hM1 hV2 hc1 hpost
  · exact pr_l111 hu2 (by omega) (by omega) (by omega) (by omega) (by omega) (by omega) (by omega) (by omega) hM1 hV2 hc1 hpost
theorem pr_cell {post : Int32 → Prop} {L k : Nat} {xs : Nat → Int32} (hL : L ≤ 5) (hk : k < 5) (H : ∀ r, post r) : wpL_cellAt post L xs () (nI k) :=
  pk_le L k (fun _ => H _) (fun z => ⟨pk_in k L z, H _⟩)
end
section
theorem i_vc (xs : Nat → Int32) (L : Nat) (hL : L ≤ 5) : wpL_law (fun r => r = 1) L xs :=
  pr_cell (k := 0) hL (by omega) (fun _ => pr_cell (k := 1) hL (by omega) (fun _ => pr_cell (k := 2) hL (by omega) (fun _ => pr_cell (k := 3) hL (by omega) (fun _ => pr_cell (k := 4) hL (by omega) (fun _ => ⟨10, 460, by omega, by omega, pr_lawOf rfl⟩)))))
end
