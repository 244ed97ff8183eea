section
/-! numbers and places -/
theorem qc_ix (s f : Nat) : nI s * 4 + nI f = nI (s * 4 + f) := by
  rw [show (4 : Int32) = nI 4 from rfl, pk_mul, nI_add]
theorem qc_ix6 (b i : Nat) : nI b * 6 + nI i = nI (b * 6 + i) := by
  rw [show (6 : Int32) = nI 6 from rfl, pk_mul, nI_add]
theorem qc_ixc {s f : Nat} (hs : s < 5) (hf : f < 4) : (nI s * 4 + nI f).toNatClampNeg = s * 4 + f := by
  rw [qc_ix]; exact nI_clamp (by omega)
theorem qc_ixv {s f : Nat} (hs : s < 5) (hf : f < 4) : vp_in (nI s * 4 + nI f) 20 := by
  rw [qc_ix]; exact vp_in_nI (by omega) (by decide)
theorem qc_ix6c {b i : Nat} (hb : b < 20) (hi : i < 6) : (nI b * 6 + nI i).toNatClampNeg = b * 6 + i := by
  rw [qc_ix6]; exact nI_clamp (by omega)
theorem qc_ix6v {b i : Nat} (hb : b < 20) (hi : i < 6) : vp_in (nI b * 6 + nI i) 120 := by
  rw [qc_ix6]; exact vp_in_nI (by omega) (by decide)
theorem qc_e43 (s : Nat) : nI s * 4 + 4 - 1 = nI (s * 4 + 3) := by
  rw [show (4 : Int32) = nI 4 from rfl, pk_mul, nI_add]; exact nI_pred (s * 4 + 3)
theorem qc_bf {b : Bool} (h : ¬ b = true) : b = false := by
  cases b
  · rfl
  · exact absurd rfl h
theorem qc_ft {b : Bool} {A : Prop} (h : b = false) (t : b = true) : A := by
  rw [h] at t; exact absurd t (by decide)
/-! sets of servers as ints -/
def qc_set (h : Nat → Bool) : Nat → Int32
  | 0 => 0
  | k + 1 => if h k = true then qc_set h k ||| ((1 : Int32) <<< (nI k &&& 31)) else qc_set h k
def qc_p5 (b0 b1 b2 b3 b4 : Bool) (k : Nat) : Bool :=
  if k = 0 then b0 else if k = 1 then b1 else if k = 2 then b2 else if k = 3 then b3 else b4
theorem qc_set_congr {h g : Nat → Bool} : ∀ k, (∀ s, s < k → h s = g s) → qc_set h k = qc_set g k
  | 0, _ => rfl
  | k + 1, e => by
    have a : qc_set h k = qc_set g k := qc_set_congr k (fun s hs => e s (by omega))
    have b : h k = g k := e k (by omega)
    show (if h k = true then qc_set h k ||| ((1 : Int32) <<< (nI k &&& 31)) else qc_set h k) = (if g k = true then qc_set g k ||| ((1 : Int32) <<< (nI k &&& 31)) else qc_set g k)
    rw [a, b]
theorem qc_p5_eq (h : Nat → Bool) {s : Nat} (hs : s < 5) : h s = qc_p5 (h 0) (h 1) (h 2) (h 3) (h 4) s := by
  rcases (by omega : s = 0 ∨ s = 1 ∨ s = 2 ∨ s = 3 ∨ s = 4) with rfl | rfl | rfl | rfl | rfl <;> rfl
theorem qc_set5 (h : Nat → Bool) : qc_set h 5 = qc_set (qc_p5 (h 0) (h 1) (h 2) (h 3) (h 4)) 5 :=
  qc_set_congr 5 (fun _ hs => qc_p5_eq h hs)
theorem qc_bitD : ∀ (b0 b1 b2 b3 b4 : Bool) (s : Nat), s < 5 → (qc_set (qc_p5 b0 b1 b2 b3 b4) 5 >>> (nI s &&& 31)) &&& 1 = (if qc_p5 b0 b1 b2 b3 b4 s = true then 1 else 0) := by
  decide +kernel
theorem qc_bit (h : Nat → Bool) {s : Nat} (hs : s < 5) : (qc_set h 5 >>> (nI s &&& 31)) &&& 1 = (if h s = true then 1 else 0) := by
  rw [qc_set5 h, qc_bitD _ _ _ _ _ s hs, ← qc_p5_eq h hs]
theorem qc_bit1 {h : Nat → Bool} {s : Nat} (hs : s < 5) (e : h s = true) : (qc_set h 5 >>> (nI s &&& 31)) &&& 1 = 1 := by
  rw [qc_bit h hs, if_pos e]
theorem qc_bit0 {h : Nat → Bool} {s : Nat} (hs : s < 5) (e : h s = false) : (qc_set h 5 >>> (nI s &&& 31)) &&& 1 = 0 := by
  rw [qc_bit h hs, e]; rfl
theorem qc_bitn {h : Nat → Bool} {s : Nat} (hs : s < 5) (e : h s = false) : ¬ (qc_set h 5 >>> (nI s &&& 31)) &&& 1 = 1 := by
  rw [qc_bit0 hs e]; decide
theorem qc_31D : ∀ (b0 b1 b2 b3 b4 : Bool), qc_set (qc_p5 b0 b1 b2 b3 b4) 5 &&& 31 = qc_set (qc_p5 b0 b1 b2 b3 b4) 5 ∧ 31 &&& qc_set (qc_p5 b0 b1 b2 b3 b4) 5 = qc_set (qc_p5 b0 b1 b2 b3 b4) 5 ∧ 31 &&& (qc_set (qc_p5 b0 b1 b2 b3 b4) 5 ^^^ (-1)) = qc_set (qc_p5 (!b0) (!b1) (!b2) (!b3) (!b4)) 5 := by
  decide +kernel
theorem qc_31a (h : Nat → Bool) : qc_set h 5 &&& 31 = qc_set h 5 := by
  rw [qc_set5 h]; exact (qc_31D _ _ _ _ _).1
theorem qc_31b (h : Nat → Bool) : 31 &&& qc_set h 5 = qc_set h 5 := by
  rw [qc_set5 h]; exact (qc_31D _ _ _ _ _).2.1
theorem qc_31c (h : Nat → Bool) : 31 &&& (qc_set h 5 ^^^ (-1)) = qc_set (fun s => !h s) 5 := by
  rw [qc_set5 h, qc_set5 (fun s => !h s)]; exact (qc_31D _ _ _ _ _).2.2
theorem qc_delD : ∀ (b0 b1 b2 b3 b4 : Bool) (r : Nat), r < 5 → qc_set (qc_p5 b0 b1 b2 b3 b4) 5 &&& (((1 : Int32) <<< (nI r &&& 31)) ^^^ (-1)) = qc_set (fun s => qc_p5 b0 b1 b2 b3 b4 s && !decide (s = r)) 5 := by
  decide +kernel
theorem qc_del (h : Nat → Bool) {r : Nat} (hr : r < 5) : qc_set h 5 &&& (((1 : Int32) <<< (nI r &&& 31)) ^^^ (-1)) = qc_set (fun s => h s && !decide (s = r)) 5 := by
  rw [qc_set5 h, qc_delD _ _ _ _ _ r hr]
  exact qc_set_congr 5 (fun s hs => by rw [← qc_p5_eq h hs])
theorem qc_zeroD : ∀ (b0 b1 b2 b3 b4 : Bool), qc_set (qc_p5 b0 b1 b2 b3 b4) 5 = 0 → ∀ s, s < 5 → qc_p5 b0 b1 b2 b3 b4 s = false := by
  decide +kernel
theorem qc_zero {h : Nat → Bool} (e : qc_set h 5 = 0) {s : Nat} (hs : s < 5) : h s = false := by
  rw [qc_set5 h] at e
  rw [qc_p5_eq h hs]
  exact qc_zeroD _ _ _ _ _ e s hs
theorem qc_zeroI {h : Nat → Bool} (e : ∀ s, s < 5 → h s = false) : qc_set h 5 = 0 :=
  (qc_set_congr (g := fun _ => false) 5 e).trans rfl
theorem qc_full : qc_set (fun _ => true) 5 = 31 := by decide +kernel
theorem qc_allD : ∀ n, n < 4 → ((1 : Int32) <<< (nI n &&& 31)) - 1 = qc_set (fun s => decide (s < n)) 5 := by decide +kernel
/-! how many -/
def qc_pop (h : Nat → Bool) : Nat → Nat
  | 0 => 0
  | k + 1 => qc_pop h k + (if h k = true then 1 else 0)
theorem qc_pop_t {h : Nat → Bool} {k : Nat} (e : h k = true) : qc_pop h (k + 1) = qc_pop h k + 1 := by
  show qc_pop h k + (if h k = true then 1 else 0) = _
  rw [if_pos e]
theorem qc_pop_f {h : Nat → Bool} {k : Nat} (e : h k = false) : qc_pop h (k + 1) = qc_pop h k := by
  show qc_pop h k + (if h k = true then 1 else 0) = _
  rw [e]; rfl
theorem qc_pop_le (h : Nat → Bool) : ∀ k, qc_pop h k ≤ k
  | 0 => Nat.le_refl 0
  | k + 1 => by
    have a := qc_pop_le h k
    cases e : h k
    · rw [qc_pop_f e]; omega
    · rw [qc_pop_t e]; omega
theorem qc_pop_congr {h g : Nat → Bool} : ∀ k, (∀ s, s < k → h s = g s) → qc_pop h k = qc_pop g k
  | 0, _ => rfl
  | k + 1, e => by
    have a : qc_pop h k = qc_pop g k := qc_pop_congr k (fun s hs => e s (by omega))
    have b : h k = g k := e k (by omega)
    show qc_pop h k + (if h k = true then 1 else 0) = qc_pop g k + (if g k = true then 1 else 0)
    rw [a, b]
theorem qc_pop_add {h g : Nat → Bool} {r : Nat} (hr : h r = false) (gr : g r = true) (o : ∀ s, s ≠ r → g s = h s) : ∀ k, qc_pop g k = qc_pop h k + (if r < k then 1 else 0)
  | 0 => rfl
  | k + 1 => by
    have a := qc_pop_add hr gr o k
    by_cases e : k = r
    · rw [e] at a ⊢
      rw [qc_pop_t gr, qc_pop_f hr, a, if_neg (Nat.lt_irrefl r), if_pos (Nat.lt_succ_self r)]
    · have b := o k e
      by_cases z : r < k
      · rw [if_pos z] at a
        rw [if_pos (show r < k + 1 by omega)]
        show qc_pop g k + (if g k = true then 1 else 0) = qc_pop h k + (if h k = true then 1 else 0) + 1
        rw [a, b]; omega
      · rw [if_neg z] at a
        rw [if_neg (show ¬ r < k + 1 by omega)]
        show qc_pop g k + (if g k = true then 1 else 0) = qc_pop h k + (if h k = true then 1 else 0) + 0
        rw [a, b]; omega
theorem qc_pop_ex {h : Nat → Bool} : ∀ k, qc_pop h k < k → ∃ s, s < k ∧ h s = false
  | 0, z => absurd z (by omega)
  | k + 1, z => by
    cases e : h k
    · exact ⟨k, by omega, e⟩
    · rw [qc_pop_t e] at z
      obtain ⟨s, hs, es⟩ := qc_pop_ex (h := h) k (by omega)
      exact ⟨s, by omega, es⟩
theorem qc_pop_0 {h : Nat → Bool} : ∀ k, (∀ s, s < k → h s = false) → qc_pop h k = 0
  | 0, _ => rfl
  | k + 1, e => by rw [qc_pop_f (e k (by omega))]; exact qc_pop_0 k (fun s hs => e s (by omega))
theorem qc_pop_1 {h : Nat → Bool} : ∀ k, (∃ s, s < k ∧ h s = true) → 1 ≤ qc_pop h k
  | 0, e => by obtain ⟨s, hs, _⟩ := e; omega
  | k + 1, e => by
    obtain ⟨s, hs, es⟩ := e
    cases g : h k
    · rw [qc_pop_f g]
      refine qc_pop_1 k ⟨s, ?_, es⟩
      have : s ≠ k := fun z => qc_ft g (z ▸ es)
      omega
    · rw [qc_pop_t g]; omega
end
section
/-! which block of a server holds which file: g f < 4 the number of a block there, else none -/
def qc_e (x b : Nat) : Nat := if x = b then 1 else 0
def qc_cnt (g : Nat → Nat) (b : Nat) : Nat := qc_e (g 0) b + qc_e (g 1) b + qc_e (g 2) b + qc_e (g 3) b
theorem qc_e1 {x b : Nat} (h : x = b) : qc_e x b = 1 := if_pos h
theorem qc_e0 {x b : Nat} (h : x ≠ b) : qc_e x b = 0 := if_neg h
theorem qc_e_le (x b : Nat) : qc_e x b ≤ 1 := by
  by_cases h : x = b
  · rw [qc_e1 h]; omega
  · rw [qc_e0 h]; omega
theorem qc_e4n {x : Nat} (h : ¬ x < 4) : qc_e x 0 + qc_e x 1 + qc_e x 2 + qc_e x 3 = 0 := by
  rw [qc_e0 (by omega), qc_e0 (by omega), qc_e0 (by omega), qc_e0 (by omega)]
theorem qc_e4 (x : Nat) : qc_e x 0 + qc_e x 1 + qc_e x 2 + qc_e x 3 ≤ 1 := by
  by_cases h : x < 4
  · rcases (by omega : x = 0 ∨ x = 1 ∨ x = 2 ∨ x = 3) with rfl | rfl | rfl | rfl <;> decide
  · rw [qc_e4n h]; omega
def qc_set1 (g : Nat → Nat) (f v : Nat) : Nat → Nat := fun f' => if f' = f then v else g f'
def qc_up (B : Nat → Nat → Nat) (s f v : Nat) : Nat → Nat → Nat := fun s' => if s' = s then qc_set1 (B s) f v else B s'
theorem qc_up_s {B : Nat → Nat → Nat} {s f v : Nat} : qc_up B s f v s = qc_set1 (B s) f v := if_pos rfl
theorem qc_up_n {B : Nat → Nat → Nat} {s f v s' : Nat} (h : s' ≠ s) : qc_up B s f v s' = B s' := if_neg h
theorem qc_up_sf {B : Nat → Nat → Nat} {s f v : Nat} : qc_up B s f v s f = v := by
  rw [qc_up_s]; exact if_pos rfl
theorem qc_up_o {B : Nat → Nat → Nat} {s f v s' f' : Nat} (h : ¬ (s' = s ∧ f' = f)) : qc_up B s f v s' f' = B s' f' := by
  by_cases e : s' = s
  · rw [e, qc_up_s]
    exact if_neg (fun z => h ⟨e, z⟩)
  · rw [qc_up_n e]
theorem qc_up_up {B : Nat → Nat → Nat} {s f v w : Nat} : qc_up (qc_up B s f v) s f w = qc_up B s f w := by
  funext s' f'
  by_cases e : s' = s ∧ f' = f
  · rw [e.1, e.2, qc_up_sf, qc_up_sf]
  · rw [qc_up_o e, qc_up_o e, qc_up_o e]
theorem qc_up_id {B : Nat → Nat → Nat} {s f : Nat} : qc_up B s f (B s f) = B := by
  funext s' f'
  by_cases e : s' = s ∧ f' = f
  · rw [e.1, e.2, qc_up_sf]
  · rw [qc_up_o e]
theorem qc_4 {f : Nat} (hf : f < 4) : f = 0 ∨ f = 1 ∨ f = 2 ∨ f = 3 := by omega
theorem qc_cnt_set (g : Nat → Nat) {f : Nat} (hf : f < 4) (v b : Nat) : qc_cnt (qc_set1 g f v) b + qc_e (g f) b = qc_cnt g b + qc_e v b := by
  rcases qc_4 hf with rfl | rfl | rfl | rfl
  · show qc_e v b + qc_e (g 1) b + qc_e (g 2) b + qc_e (g 3) b + qc_e (g 0) b = qc_e (g 0) b + qc_e (g 1) b + qc_e (g 2) b + qc_e (g 3) b + qc_e v b
    omega
  · show qc_e (g 0) b + qc_e v b + qc_e (g 2) b + qc_e (g 3) b + qc_e (g 1) b = qc_e (g 0) b + qc_e (g 1) b + qc_e (g 2) b + qc_e (g 3) b + qc_e v b
    omega
  · show qc_e (g 0) b + qc_e (g 1) b + qc_e v b + qc_e (g 3) b + qc_e (g 2) b = qc_e (g 0) b + qc_e (g 1) b + qc_e (g 2) b + qc_e (g 3) b + qc_e v b
    omega
  · show qc_e (g 0) b + qc_e (g 1) b + qc_e (g 2) b + qc_e v b + qc_e (g 3) b = qc_e (g 0) b + qc_e (g 1) b + qc_e (g 2) b + qc_e (g 3) b + qc_e v b
    omega
theorem qc_cnt_pos {g : Nat → Nat} {f b : Nat} (hf : f < 4) (hg : g f = b) : 1 ≤ qc_cnt g b := by
  have e := qc_e1 hg
  unfold qc_cnt
  rcases qc_4 hf with rfl | rfl | rfl | rfl <;> omega
theorem qc_cnt0 {g : Nat → Nat} {b f : Nat} (h : qc_cnt g b = 0) (hf : f < 4) : g f ≠ b := by
  intro e
  have := qc_cnt_pos hf e
  omega
theorem qc_cnt1 {g : Nat → Nat} {b f : Nat} (h : qc_cnt g b = 1) (hf : f < 4) (hg : g f = b) : ∀ f', f' < 4 → f' ≠ f → g f' ≠ b := by
  intro f' hf' hn e
  have e1 := qc_e1 hg
  have e2 := qc_e1 e
  unfold qc_cnt at h
  rcases qc_4 hf with rfl | rfl | rfl | rfl <;> rcases qc_4 hf' with rfl | rfl | rfl | rfl <;> omega
theorem qc_cnt_le (g : Nat → Nat) (b : Nat) : qc_cnt g b ≤ 4 := by
  have h0 := qc_e_le (g 0) b
  have h1 := qc_e_le (g 1) b
  have h2 := qc_e_le (g 2) b
  have h3 := qc_e_le (g 3) b
  unfold qc_cnt
  omega
theorem qc_pig (g : Nat → Nat) : qc_cnt g 0 + qc_cnt g 1 + qc_cnt g 2 + qc_cnt g 3 ≤ 4 := by
  have h0 := qc_e4 (g 0)
  have h1 := qc_e4 (g 1)
  have h2 := qc_e4 (g 2)
  have h3 := qc_e4 (g 3)
  unfold qc_cnt
  omega
theorem qc_pig3 {g : Nat → Nat} {f : Nat} (hf : f < 4) (h : ¬ g f < 4) : qc_cnt g 0 + qc_cnt g 1 + qc_cnt g 2 + qc_cnt g 3 ≤ 3 := by
  have h0 := qc_e4 (g 0)
  have h1 := qc_e4 (g 1)
  have h2 := qc_e4 (g 2)
  have h3 := qc_e4 (g 3)
  have hn := qc_e4n h
  unfold qc_cnt
  rcases qc_4 hf with rfl | rfl | rfl | rfl <;> omega
/-- blockOf and holders are those of B -/
def qc_bx (s b : Nat) : Int32 := if b < 4 then nI (s * 4 + b) else -1
def qc_str (a4 a9 : Nat → Int32) (B : Nat → Nat → Nat) : Prop :=
  (∀ s f, s < 5 → f < 4 → a4 (s * 4 + f) = qc_bx s (B s f)) ∧ (∀ s b, s < 5 → b < 4 → a9 (s * 4 + b) = nI (qc_cnt (B s) b))
theorem qc_str_t {a4 a9 : Nat → Int32} {B : Nat → Nat → Nat} {s f : Nat} (st : qc_str a4 a9 B) (hs : s < 5) (hf : f < 4) (hB : B s f < 4) : a4 (s * 4 + f) = nI (s * 4 + B s f) :=
  (st.1 s f hs hf).trans (if_pos hB)
theorem qc_str_f {a4 a9 : Nat → Int32} {B : Nat → Nat → Nat} {s f : Nat} (st : qc_str a4 a9 B) (hs : s < 5) (hf : f < 4) (hB : ¬ B s f < 4) : a4 (s * 4 + f) = -1 :=
  (st.1 s f hs hf).trans (if_neg hB)
theorem qc_str_up {a4 a9 a9' : Nat → Int32} {B : Nat → Nat → Nat} {s f v : Nat} {x : Int32} (st : qc_str a4 a9 B) (hs : s < 5) (hf : f < 4) (hx : x = qc_bx s v)
    (h1 : ∀ b, b < 4 → a9' (s * 4 + b) = nI (qc_cnt (qc_set1 (B s) f v) b)) (h2 : ∀ j, (j < s * 4 ∨ s * 4 + 4 ≤ j) → a9' j = a9 j) :
    qc_str (upd a4 (s * 4 + f) x) a9' (qc_up B s f v) := by
  refine ⟨fun s' f' hs' hf' => ?_, fun s' b hs' hb => ?_⟩
  · by_cases e : s' = s ∧ f' = f
    · rw [e.1, e.2, pk_us, qc_up_sf, hx]
    · rw [pk_un (by omega), qc_up_o e]
      exact st.1 s' f' hs' hf'
  · by_cases e : s' = s
    · rw [e, qc_up_s]
      exact h1 b hb
    · rw [qc_up_n e, h2 _ (by omega)]
      exact st.2 s' b hs' hb
/-! the methods on blocks -/
section
variable {cp lv : Int32} {a1 a2 a3 a4 a5 a6 a7 a8 a9 : Nat → Int32} {B : Nat → Nat → Nat} {s f : Nat}
theorem qc_letGo {post : St2 → Prop} (st : qc_str a4 a9 B) (hs : s < 5) (hf : f < 4)
    (hp : ∀ b4 b9, qc_str b4 b9 (qc_up B s f 4) → post (cp, lv, a1, a2, a3, b4, a5, a6, a7, a8, b9)) :
    wpX_letGo post (cp, lv, a1, a2, a3, a4, a5, a6, a7, a8, a9) (nI s) (nI f) := by
  by_cases hB : B s f < 4
  · have hq : s * 4 + B s f < 20 := by omega
    refine And.intro (qc_ixv hs hf) (nm_r (e' := nI (s * 4 + B s f)) (by rw [qc_ixc hs hf]; exact qc_str_t st hs hf hB) (br_f (nI_pos (by omega)) ⟨vp_in_nI hq (by decide), vp_in_nI hq (by decide), nm_e ?_⟩))
    refine And.intro (qc_ixv hs hf) (nm_e ?_)
    rw [qc_ixc hs hf, nI_clamp (show s * 4 + B s f < 2 ^ 31 by omega)]
    refine hp _ _ (qc_str_up st hs hf rfl (fun b hb => ?_) (fun j hj => ?_))
    · have c := qc_cnt_set (B s) hf 4 b
      rw [qc_e0 (show 4 ≠ b by omega)] at c
      by_cases e : b = B s f
      · rw [e] at c ⊢
        rw [qc_e1 rfl] at c
        rw [pk_us, st.2 s _ hs hB, show qc_cnt (B s) (B s f) = qc_cnt (qc_set1 (B s) f 4) (B s f) + 1 by omega]
        exact nI_pred _
      · rw [qc_e0 (fun z => e z.symm)] at c
        rw [pk_un (by omega), st.2 s b hs hb, show qc_cnt (B s) b = qc_cnt (qc_set1 (B s) f 4) b by omega]
    · exact pk_un (by omega)
  · refine And.intro (qc_ixv hs hf) (nm_r (e' := -1) (by rw [qc_ixc hs hf]; exact qc_str_f st hs hf hB) (br_t (by decide) ?_))
    refine And.intro (qc_ixv hs hf) (nm_e ?_)
    rw [qc_ixc hs hf]
    refine hp _ _ (qc_str_up st hs hf rfl (fun b hb => ?_) (fun j hj => rfl))
    have c := qc_cnt_set (B s) hf 4 b
    rw [qc_e0 (show 4 ≠ b by omega), qc_e0 (show B s f ≠ b by omega)] at c
    rw [st.2 s b hs hb, show qc_cnt (B s) b = qc_cnt (qc_set1 (B s) f 4) b by omega]
theorem qc_freeBlock {post : Int32 → Prop} (st : qc_str a4 a9 B) (hs : s < 5)
    (hfr : 1 ≤ qc_cnt (B s) 0 → 1 ≤ qc_cnt (B s) 1 → 1 ≤ qc_cnt (B s) 2 → qc_cnt (B s) 3 = 0)
    (hp : ∀ b, b < 4 → qc_cnt (B s) b = 0 → post (nI (s * 4 + b))) :
    wpX_freeBlock post (cp, lv, a1, a2, a3, a4, a5, a6, a7, a8, a9) (nI s) := by
  refine nm_r (e' := nI (s * 4 + 0)) (by rw [show (4 : Int32) = nI 4 from rfl, pk_mul]; rfl) ?_
  refine pk_loop (σ := Unit) (fun n i _ => wX_freeBlock_4 post (nI s) cp lv a1 a2 a3 a4 a5 a6 a7 a8 a9 n (nI (s * 4 + i))) (fun i _ => ∀ j, j < i → 1 ≤ qc_cnt (B s) j) 3 0 () (by omega) (fun j hj => absurd hj (by omega)) ?_ ?_
  · intro n _ h
    exact pk_le (s * 4 + 3) (s * 4 + 3) (fun _ => hp 3 (by omega) (hfr (h 0 (by omega)) (h 1 (by omega)) (h 2 (by omega)))) (fun z => absurd z (by omega)) (qc_e43 s)
  · intro n i _ hi h hw
    refine pk_le (s * 4 + 3) (s * 4 + i) (fun z => absurd z (by omega)) (fun _ => ⟨pk_in (s * 4 + i) 20 (by omega), ?_⟩) (qc_e43 s)
    rw [nI_clamp (show s * 4 + i < 2 ^ 31 by omega), st.2 s i hs (by omega)]
    have hl := qc_cnt_le (B s) i
    refine pk_le (qc_cnt (B s) i) 0 (fun z => hp i (by omega) (by omega)) (fun z => nm_r (nI_1 _) (hw () (fun j hj => ?_)))
    by_cases e : j = i
    · rw [e]; omega
    · exact h j (by omega)
theorem qc_newReplica {post : Int32 → St2 → Prop} (st : qc_str a4 a9 B) (hs : s < 5) (hf : f < 4)
    (hp : ∀ b b4 b9, b < 4 → qc_str b4 b9 (qc_up B s f b) → (∀ f', f' < 4 → f' ≠ f → qc_up B s f b s f' ≠ b) → post (nI (s * 4 + b)) (cp, lv, a1, a2, a3, b4, upd a5 (s * 4 + f) (a3 f), a6, a7, a8, b9)) :
    wpX_newReplica post (cp, lv, a1, a2, a3, a4, a5, a6, a7, a8, a9) (nI s) (nI f) := by
  unfold wpX_newReplica
  refine qc_letGo st hs hf (fun b4 b9 st1 => ?_)
  refine qc_freeBlock st1 hs (fun h0 h1 h2 => ?_) (fun b hb hc => ?_)
  · have := qc_pig3 (g := qc_up B s f 4 s) hf (by rw [qc_up_sf]; omega)
    omega
  · have hq : s * 4 + b < 20 := by omega
    refine ⟨vp_in_nI hq (by decide), nm_e ⟨qc_ixv hs hf, nm_e ⟨vp_in_nI hf (by decide), qc_ixv hs hf, nm_e ?_⟩⟩⟩
    rw [qc_ixc hs hf, nI_clamp (show f < 2 ^ 31 by omega), nI_clamp (show s * 4 + b < 2 ^ 31 by omega)]
    refine hp b _ _ hb ?_ (fun f' hf' hn => ?_)
    · have := qc_str_up (a9' := upd b9 (s * 4 + b) 1) (v := b) (x := nI (s * 4 + b)) st1 hs hf (if_pos hb).symm (fun b' hb' => ?_) (fun j hj => pk_un (by omega))
      · rw [qc_up_up] at this
        exact this
      · have c := qc_cnt_set (qc_up B s f 4 s) hf b b'
        rw [qc_up_sf, qc_e0 (show 4 ≠ b' by omega)] at c
        by_cases e : b' = b
        · rw [e] at c ⊢
          rw [qc_e1 rfl, hc] at c
          rw [pk_us, show qc_cnt (qc_set1 (qc_up B s f 4 s) f b) b = 1 by omega]
          rfl
        · rw [qc_e0 (fun z => e z.symm)] at c
          rw [pk_un (by omega), st1.2 s b' hs hb', show qc_cnt (qc_set1 (qc_up B s f 4 s) f b) b' = qc_cnt (qc_up B s f 4 s) b' by omega]
    · have d := qc_cnt0 hc hf'
      rw [qc_up_o (fun z => hn z.2)] at d ⊢
      exact d
theorem qc_copyBlock {post : St2 → Prop} {p q : Nat} (hp20 : p < 20) (hq20 : q < 20) (hne : p ≠ q)
    (hp : ∀ b6, (∀ i, i < 6 → b6 (q * 6 + i) = a6 (p * 6 + i)) → (∀ j, (j < q * 6 ∨ q * 6 + 6 ≤ j) → b6 j = a6 j) → post (cp, lv, a1, a2, a3, a4, a5, b6, upd a7 q (a7 p), upd a8 q (a8 p), a9)) :
    wpX_copyBlock post (cp, lv, a1, a2, a3, a4, a5, a6, a7, a8, a9) (nI p) (nI q) := by
  refine pk_loop (fun n i t => wX_copyBlock_2 post (nI p) (nI q) cp lv n (nI i) a1 a2 a3 a4 a5 t a7 a8 a9) (fun i t => (∀ k, k < i → t (q * 6 + k) = a6 (p * 6 + k)) ∧ (∀ j, (j < q * 6 ∨ q * 6 + i ≤ j) → t j = a6 j)) 6 0 a6 (by omega) ⟨fun j hj => absurd hj (by omega), fun j hj => rfl⟩ ?_ ?_
  · intro n t h
    refine pk_le 6 6 (fun _ => ?_) (fun z => absurd z (by omega))
    refine ⟨vp_in_nI hp20 (by decide), vp_in_nI hq20 (by decide), nm_e ⟨vp_in_nI hp20 (by decide), vp_in_nI hq20 (by decide), nm_e ?_⟩⟩
    rw [nI_clamp (show p < 2 ^ 31 by omega), nI_clamp (show q < 2 ^ 31 by omega)]
    exact hp t h.1 h.2
  · intro n i t hi h hw
    refine pk_le 6 i (fun z => absurd z (by omega)) (fun _ => ⟨qc_ix6v hp20 hi, qc_ix6v hq20 hi, nm_r (e' := upd t (q * 6 + i) (t (p * 6 + i))) (by rw [qc_ix6c hp20 hi, qc_ix6c hq20 hi]) (nm_r (nI_1 i) (hw _ ⟨fun k hk => ?_, fun j hj => ?_⟩))⟩)
    · by_cases e : k = i
      · rw [e, pk_us]
        exact h.2 _ (by omega)
      · rw [pk_un (by omega)]
        exact h.1 k (by omega)
    · rw [pk_un (by omega)]
      exact h.2 j (by omega)
end
end
section
/-! what a replica holds, and the whole picture -/
def qc_sm (l : Int32) (c : Nat → Int32) : Nat → Int32
  | 0 => 29 + l
  | k + 1 => qc_sm l c k * 16777619 + c k
def qc_rep (a3 a5 a6 a7 a8 : Nat → Int32) (s f b l : Nat) (c : Nat → Int32) : Prop :=
  a5 (s * 4 + f) = a3 f ∧ a7 (s * 4 + b) = nI l ∧ (∀ i, i < 6 → a6 ((s * 4 + b) * 6 + i) = c i) ∧ a8 (s * 4 + b) = qc_sm (nI l) c 6
def qc_C (a3 a5 a6 a7 a8 : Nat → Int32) (B : Nat → Nat → Nat) (ln : Nat → Nat → Nat) (ct : Nat → Nat → Nat → Int32) : Prop :=
  ∀ s f, s < 5 → f < 4 → B s f < 4 → qc_rep a3 a5 a6 a7 a8 s f (B s f) (ln s f) (ct s f)
def qc_U (ex : Nat → Bool) (a1 a2 : Nat → Int32) : Prop :=
  (∀ s, s < 5 → a1 s = 1) ∧ (∀ f, f < 4 → a2 f = (if ex f = true then 1 else 0))
/-- the law's picture: n copies, ex: the files, h s f: server s holds f, LN and CT: every replica's length and cells -/
def qc_M (n : Nat) (ex : Nat → Bool) (h : Nat → Nat → Bool) (LN : Nat → Nat) (CT : Nat → Nat → Int32) : St2 → Prop
  | (cp, _, a1, a2, a3, a4, a5, a6, a7, a8, a9) => cp = nI n ∧ (∀ s f, s < 5 → f < 4 → h s f = true → ex f = true) ∧ qc_U ex a1 a2 ∧
    ∃ B : Nat → Nat → Nat, (∀ s f, s < 5 → f < 4 → (h s f = true ↔ B s f < 4)) ∧ qc_str a4 a9 B ∧ qc_C a3 a5 a6 a7 a8 B (fun _ f => LN f) (fun _ f => CT f)
theorem qc_exT {ex : Nat → Bool} {a1 a2 : Nat → Int32} (U : qc_U ex a1 a2) {f : Nat} (hf : f < 4) (e : ex f = true) : ¬ a2 f = 0 := by
  rw [U.2 f hf, if_pos e]; decide
theorem qc_exF {ex : Nat → Bool} {a1 a2 : Nat → Int32} (U : qc_U ex a1 a2) {f : Nat} (hf : f < 4) (e : ex f = false) : a2 f = 0 := by
  rw [U.2 f hf, e]; rfl
theorem qc_M_w {n : Nat} {ex : Nat → Bool} {h h' : Nat → Nat → Bool} {LN LN' : Nat → Nat} {CT CT' : Nat → Nat → Int32} {u : St2} (M : qc_M n ex h LN CT u)
    (eh : ∀ s f, s < 5 → f < 4 → h' s f = h s f) (ec : ∀ s f, s < 5 → f < 4 → h s f = true → LN' f = LN f ∧ CT' f = CT f) : qc_M n ex h' LN' CT' u := by
  obtain ⟨cp, lv, a1, a2, a3, a4, a5, a6, a7, a8, a9⟩ := u
  obtain ⟨hc, hx, U, B, hB, st, C⟩ := M
  refine ⟨hc, fun s f hs hf e => hx s f hs hf (by rw [← eh s f hs hf]; exact e), U, B, fun s f hs hf => by rw [eh s f hs hf]; exact hB s f hs hf, st, fun s f hs hf hb => ?_⟩
  obtain ⟨e1, e2⟩ := ec s f hs hf ((hB s f hs hf).mpr hb)
  show qc_rep a3 a5 a6 a7 a8 s f (B s f) (LN' f) (CT' f)
  rw [e1, e2]
  exact C s f hs hf hb
theorem qc_M_cp {n : Nat} {ex : Nat → Bool} {h : Nat → Nat → Bool} {LN : Nat → Nat} {CT : Nat → Nat → Int32} {cp lv : Int32} {a1 a2 a3 a4 a5 a6 a7 a8 a9 : Nat → Int32} (M : qc_M n ex h LN CT (cp, lv, a1, a2, a3, a4, a5, a6, a7, a8, a9)) : cp = nI n := M.1
/-- the cells, length and check of one block that only this replica uses are written -/
theorem qc_put {a3 a5 a6 a7 a8 b6 b7 b8 : Nat → Int32} {B : Nat → Nat → Nat} {ln ln' : Nat → Nat → Nat} {ct ct' : Nat → Nat → Nat → Int32} {s f : Nat} (hs : s < 5) (hf : f < 4) (hB : B s f < 4)
    (xc : ∀ f', f' < 4 → f' ≠ f → B s f' ≠ B s f)
    (R : ∀ s' f', s' < 5 → f' < 4 → ¬ (s' = s ∧ f' = f) → B s' f' < 4 → qc_rep a3 a5 a6 a7 a8 s' f' (B s' f') (ln s' f') (ct s' f'))
    (hv : a5 (s * 4 + f) = a3 f)
    (h7 : b7 (s * 4 + B s f) = nI (ln' s f)) (h7o : ∀ j, j ≠ s * 4 + B s f → b7 j = a7 j)
    (h6 : ∀ i, i < 6 → b6 ((s * 4 + B s f) * 6 + i) = ct' s f i) (h6o : ∀ j, (j < (s * 4 + B s f) * 6 ∨ (s * 4 + B s f) * 6 + 6 ≤ j) → b6 j = a6 j)
    (h8 : b8 (s * 4 + B s f) = qc_sm (nI (ln' s f)) (ct' s f) 6) (h8o : ∀ j, j ≠ s * 4 + B s f → b8 j = a8 j)
    (ho : ∀ s' f', s' < 5 → f' < 4 → ¬ (s' = s ∧ f' = f) → ln' s' f' = ln s' f' ∧ ct' s' f' = ct s' f') : qc_C a3 a5 b6 b7 b8 B ln' ct' := by
  intro s' f' hs' hf' hB'
  by_cases e : s' = s ∧ f' = f
  · rw [e.1, e.2]
    exact ⟨hv, h7, h6, h8⟩
  · obtain ⟨r1, r2, r3, r4⟩ := R s' f' hs' hf' e hB'
    obtain ⟨o1, o2⟩ := ho s' f' hs' hf' e
    have d : s' * 4 + B s' f' ≠ s * 4 + B s f := by
      by_cases es : s' = s
      · have := xc f' hf' (fun z => e ⟨es, z⟩)
        rw [es]
        omega
      · omega
    refine ⟨r1, ?_, fun i hi => ?_, ?_⟩
    · rw [h7o _ d, o1]; exact r2
    · rw [h6o _ (by omega), o2]; exact r3 i hi
    · rw [h8o _ d, o1, o2]; exact r4
theorem qc_C_drop {a3 a5 a6 a7 a8 : Nat → Int32} {B : Nat → Nat → Nat} {ln : Nat → Nat → Nat} {ct : Nat → Nat → Nat → Int32} {s f : Nat} (C : qc_C a3 a5 a6 a7 a8 B ln ct) : qc_C a3 a5 a6 a7 a8 (qc_up B s f 4) ln ct := by
  intro s' f' hs' hf' hB'
  by_cases e : s' = s ∧ f' = f
  · rw [e.1, e.2, qc_up_sf] at hB'
    omega
  · rw [qc_up_o e] at hB' ⊢
    exact C s' f' hs' hf' hB'
/-! plain methods -/
theorem qc_badFile {post : Int32 → Prop} {f : Nat} (hf : f < 4) (hp : post 0) : wpX_badFile post () (nI f) :=
  br_f (nI_pos (by omega)) (pk_lt f 4 (fun _ => hp) (fun z => absurd z (by omega)))
theorem qc_badServer {post : Int32 → Prop} {s : Nat} (hs : s < 5) (hp : post 0) : wpX_badServer post () (nI s) :=
  br_f (nI_pos (by omega)) (pk_lt s 5 (fun _ => hp) (fun z => absurd z (by omega)))
theorem qc_bits {post : Int32 → Prop} (h : Nat → Bool) (hp : post (nI (qc_pop h 5))) : wpX_bits post () (qc_set h 5) := by
  refine pk_loop (fun n i t => wX_bits_4 post (qc_set h 5) n t (nI i)) (fun i t => t = nI (qc_pop h i)) 5 0 0 (by omega) rfl ?_ ?_
  · intro n t e
    exact pk_le 5 5 (fun _ => by rw [e]; exact hp) (fun z => absurd z (by omega))
  · intro n i t hi e hw
    refine pk_le 5 i (fun z => absurd z (by omega)) (fun _ => nm_r (e' := nI (qc_pop h (i + 1))) ?_ (nm_r (nI_1 i) (hw _ rfl)))
    rw [qc_bit h hi, e]
    cases z : h i
    · rw [qc_pop_f z]
      exact nI_add (qc_pop h i) 0
    · rw [qc_pop_t z]
      exact nI_add (qc_pop h i) 1
section
variable {cp lv : Int32} {a1 a2 a3 a4 a5 a6 a7 a8 a9 : Nat → Int32} {n : Nat} {ex : Nat → Bool} {h : Nat → Nat → Bool} {LN : Nat → Nat} {CT : Nat → Nat → Int32} {s f : Nat}
theorem qc_upSet {post : Int32 → Prop} (h1 : ∀ s, s < 5 → a1 s = 1) (hp : post 31) : wpX_upSet post (cp, lv, a1, a2, a3, a4, a5, a6, a7, a8, a9) := by
  refine pk_loop (fun n i t => wX_upSet_4 post cp lv a1 a2 a3 a4 a5 a6 a7 a8 a9 n t (nI i)) (fun i t => t = qc_set (fun _ => true) i) 5 0 0 (by omega) rfl ?_ ?_
  · intro n t e
    exact pk_le 5 5 (fun _ => by rw [e, qc_full]; exact hp) (fun z => absurd z (by omega))
  · intro n i t hi e hw
    refine pk_le 5 i (fun z => absurd z (by omega)) (fun _ => ⟨pk_in i 5 hi, br_f ?_ (nm_r (e' := qc_set (fun _ => true) (i + 1)) ?_ (nm_r (nI_1 i) (hw _ rfl)))⟩)
    · rw [nI_clamp (by omega), h1 i hi]; decide
    · rw [e]; rfl
theorem qc_sumOf {post : Int32 → Prop} {b : Nat} {l : Int32} {c : Nat → Int32} (hb : b < 20) (hl : a7 b = l) (hc : ∀ i, i < 6 → a6 (b * 6 + i) = c i) (hp : post (qc_sm l c 6)) :
    wpX_sumOf post (cp, lv, a1, a2, a3, a4, a5, a6, a7, a8, a9) (nI b) := by
  refine And.intro (vp_in_nI hb (by decide)) (nm_r (e' := qc_sm l c 0) (by rw [nI_clamp (by omega), hl]; rfl) ?_)
  refine pk_loop (fun n i t => wX_sumOf_12 post (nI b) cp lv a1 a2 a3 a4 a5 a6 a7 a8 a9 n t (nI i)) (fun i t => t = qc_sm l c i) 6 0 (qc_sm l c 0) (by omega) rfl ?_ ?_
  · intro n t e
    exact pk_le 6 6 (fun _ => by rw [e]; exact hp) (fun z => absurd z (by omega))
  · intro n i t hi e hw
    refine pk_le 6 i (fun z => absurd z (by omega)) (fun _ => ⟨qc_ix6v hb hi, nm_r (e' := qc_sm l c (i + 1)) ?_ (nm_r (nI_1 i) (hw _ rfl))⟩)
    rw [qc_ix6c hb hi, hc i hi, e]
    rfl
theorem qc_current {post : Int32 → Prop} (M : qc_M n ex h LN CT (cp, lv, a1, a2, a3, a4, a5, a6, a7, a8, a9)) (hs : s < 5) (hf : f < 4) (p1 : h s f = true → post 1) (p0 : h s f = false → post 0) :
    wpX_current post (cp, lv, a1, a2, a3, a4, a5, a6, a7, a8, a9) (nI s) (nI f) := by
  obtain ⟨hc, hx, U, B, hB, st, C⟩ := M
  cases e : h s f
  · have z : ¬ B s f < 4 := fun y => qc_ft e ((hB s f hs hf).mpr y)
    exact And.intro (qc_ixv hs hf) (nm_r (e' := -1) (by rw [qc_ixc hs hf]; exact qc_str_f st hs hf z) (br_t (by decide) (p0 e)))
  · have z : B s f < 4 := (hB s f hs hf).mp e
    obtain ⟨r1, r2, r3, r4⟩ := C s f hs hf z
    have hq : s * 4 + B s f < 20 := by omega
    refine And.intro (qc_ixv hs hf) (nm_r (e' := nI (s * 4 + B s f)) (by rw [qc_ixc hs hf]; exact qc_str_t st hs hf z) (br_f (nI_pos (by omega)) ⟨vp_in_nI hf (by decide), br_f ?_ ⟨qc_ixv hs hf, vp_in_nI hf (by decide), br_t ?_ ?_⟩⟩))
    · rw [nI_clamp (by omega)]
      exact qc_exT U hf (hx s f hs hf e)
    · rw [nI_clamp (by omega), qc_ixc hs hf]
      exact r1
    · refine qc_sumOf hq r2 r3 ⟨vp_in_nI hq (by decide), br_t ?_ (p1 e)⟩
      rw [nI_clamp (by omega), r4]
theorem qc_loadOf {post : Int32 → Prop} (M : qc_M n ex h LN CT (cp, lv, a1, a2, a3, a4, a5, a6, a7, a8, a9)) (hs : s < 5) (hp : post (nI (qc_pop (h s) 4))) :
    wpX_loadOf post (cp, lv, a1, a2, a3, a4, a5, a6, a7, a8, a9) (nI s) := by
  refine pk_loop (fun n i t => wX_loadOf_4 post (nI s) cp lv a1 a2 a3 a4 a5 a6 a7 a8 a9 n t (nI i)) (fun i t => t = nI (qc_pop (h s) i)) 4 0 0 (by omega) rfl ?_ ?_
  · intro n t e
    exact pk_le 4 4 (fun _ => by rw [e]; exact hp) (fun z => absurd z (by omega))
  · intro n i t hi e hw
    refine pk_le 4 i (fun z => absurd z (by omega)) (fun _ => qc_current M hs hi (fun z => ?_) (fun z => ?_))
    · exact br_f (by decide) (nm_e (nm_r (nI_1 i) (hw _ (by rw [e, nI_1, qc_pop_t z]))))
    · exact br_t rfl (nm_r (nI_1 i) (hw _ (by rw [e, qc_pop_f z])))
theorem qc_firstOf {post : Int32 → Prop} (M : qc_M n ex h LN CT (cp, lv, a1, a2, a3, a4, a5, a6, a7, a8, a9)) (g : Nat → Bool)
    (hn : (∀ s, s < 5 → g s = false) → post (-1))
    (hp : ∀ r, r < 5 → g r = true → (∀ j, j < 5 → g j = true → qc_pop (h r) 4 ≤ qc_pop (h j) 4 ∧ (j < r → qc_pop (h r) 4 < qc_pop (h j) 4)) → post (nI r)) :
    wpX_firstOf post (cp, lv, a1, a2, a3, a4, a5, a6, a7, a8, a9) (qc_set g 5) := by
  refine pk_loop (fun n i t => wX_firstOf_7 post (qc_set g 5) cp lv a1 a2 a3 a4 a5 a6 a7 a8 a9 n t.1 t.2 (nI i))
    (fun i t => ((∀ j, j < i → g j = false) ∧ t.1 = -1) ∨ (∃ r, r < i ∧ g r = true ∧ t.1 = nI r ∧ t.2 = nI (qc_pop (h r) 4) ∧ ∀ j, j < i → g j = true → qc_pop (h r) 4 ≤ qc_pop (h j) 4 ∧ (j < r → qc_pop (h r) 4 < qc_pop (h j) 4)))
    5 0 ((-1 : Int32), (0 : Int32)) (by omega) (Or.inl ⟨fun j hj => absurd hj (by omega), rfl⟩) ?_ ?_
  · intro n t e
    refine pk_le 5 5 (fun _ => ?_) (fun z => absurd z (by omega))
    rcases e with ⟨e1, e2⟩ | ⟨r, hr, gr, e1, e2, e3⟩
    · rw [e2]; exact hn e1
    · rw [e1]; exact hp r hr gr e3
  · intro n i t hi e hw
    obtain ⟨x, y⟩ := t
    refine pk_le 5 i (fun z => absurd z (by omega)) (fun _ => ?_)
    have lr : ∀ r, qc_pop (h r) 4 ≤ 4 := fun r => qc_pop_le (h r) 4
    cases gi : g i
    · refine br_f (qc_bitn hi gi) (nm_r (nI_1 i) (hw (x, y) ?_))
      rcases e with ⟨e1, e2⟩ | ⟨r, hr, gr, e1, e2, e3⟩
      · refine Or.inl ⟨fun j hj => ?_, e2⟩
        by_cases ej : j = i
        · rw [ej]; exact gi
        · exact e1 j (by omega)
      · refine Or.inr ⟨r, by omega, gr, e1, e2, fun j hj gj => ?_⟩
        by_cases ej : j = i
        · exact qc_ft gi (ej ▸ gj)
        · exact e3 j (by omega) gj
    · refine br_t (qc_bit1 hi gi) (qc_loadOf M hi ?_)
      rcases e with ⟨e1, e2⟩ | ⟨r, hr, gr, e1, e2, e3⟩
      · refine br_t (show x < 0 by rw [show x = -1 from e2]; decide) (nm_r (nI_1 i) (hw (nI i, nI (qc_pop (h i) 4)) (Or.inr ⟨i, by omega, gi, rfl, rfl, fun j hj gj => ?_⟩)))
        by_cases ej : j = i
        · rw [ej]; exact ⟨Nat.le_refl _, fun z => absurd z (by omega)⟩
        · exact qc_ft (e1 j (by omega)) gj
      · have ri := lr i
        have rr := lr r
        refine br_f (show ¬ x < 0 by rw [show x = nI r from e1]; exact nI_pos (by omega)) (pk_le (qc_pop (h r) 4) (qc_pop (h i) 4) (fun z => nm_r (nI_1 i) (hw (x, y) (Or.inr ⟨r, by omega, gr, e1, e2, fun j hj gj => ?_⟩))) (fun z => nm_r (nI_1 i) (hw (nI i, nI (qc_pop (h i) 4)) (Or.inr ⟨i, by omega, gi, rfl, rfl, fun j hj gj => ?_⟩))) e2)
        · by_cases ej : j = i
          · rw [ej]; exact ⟨z, fun y => absurd y (by omega)⟩
          · exact e3 j (by omega) gj
        · by_cases ej : j = i
          · rw [ej]; exact ⟨Nat.le_refl _, fun z => absurd z (by omega)⟩
          · have := (e3 j (by omega) gj).1
            exact ⟨by omega, fun _ => by omega⟩
theorem qc_currentSet {post : Int32 → Prop} (M : qc_M n ex h LN CT (cp, lv, a1, a2, a3, a4, a5, a6, a7, a8, a9)) (hf : f < 4) (hp : post (qc_set (fun s => h s f) 5)) :
    wpX_currentSet post (cp, lv, a1, a2, a3, a4, a5, a6, a7, a8, a9) (nI f) := by
  refine pk_loop (fun n i t => wX_currentSet_4 post (nI f) cp lv a1 a2 a3 a4 a5 a6 a7 a8 a9 n t (nI i)) (fun i t => t = qc_set (fun s => h s f) i) 5 0 0 (by omega) rfl ?_ ?_
  · intro n t e
    exact pk_le 5 5 (fun _ => by rw [e]; exact hp) (fun z => absurd z (by omega))
  · intro n i t hi e hw
    refine pk_le 5 i (fun z => absurd z (by omega)) (fun _ => qc_current M hi hf (fun z => ?_) (fun z => ?_))
    · refine br_f (by decide) (nm_e (nm_r (nI_1 i) (hw _ ?_)))
      show _ = (if h i f = true then qc_set (fun s => h s f) i ||| ((1 : Int32) <<< (nI i &&& 31)) else qc_set (fun s => h s f) i)
      rw [e, if_pos z]
    · refine br_t rfl (nm_r (nI_1 i) (hw _ ?_))
      show _ = (if h i f = true then qc_set (fun s => h s f) i ||| ((1 : Int32) <<< (nI i &&& 31)) else qc_set (fun s => h s f) i)
      rw [e, z]
      rfl
theorem qc_source {post : Int32 → Prop} (M : qc_M n ex h LN CT (cp, lv, a1, a2, a3, a4, a5, a6, a7, a8, a9)) (hf : f < 4) (hn : (∀ s, s < 5 → h s f = false) → post (-1)) (hp : ∀ s, s < 5 → h s f = true → post (nI s)) :
    wpX_source post (cp, lv, a1, a2, a3, a4, a5, a6, a7, a8, a9) (nI f) := by
  refine pk_loop (σ := Unit) (fun n i _ => wX_source_2 post (nI f) cp lv a1 a2 a3 a4 a5 a6 a7 a8 a9 n (nI i)) (fun i _ => ∀ j, j < i → h j f = false) 5 0 () (by omega) (fun j hj => absurd hj (by omega)) ?_ ?_
  · intro n _ e
    exact pk_le 5 5 (fun _ => hn e) (fun z => absurd z (by omega))
  · intro n i _ hi e hw
    have u1 : ¬ a1 (nI i).toNatClampNeg = 0 := by
      rw [nI_clamp (by omega), M.2.2.1.1 i hi]; decide
    refine pk_le 5 i (fun z => absurd z (by omega)) (fun _ => ⟨pk_in i 5 hi, br_f u1 (qc_current M hi hf (fun z => ?_) (fun z => ?_))⟩)
    · exact br_f (by decide) (hp i hi z)
    · refine br_t rfl (nm_r (nI_1 i) (hw () (fun j hj => ?_)))
      by_cases ej : j = i
      · rw [ej]; exact z
      · exact e j (by omega)
theorem qc_refusal {post : Int32 → Prop} (M : qc_M n ex h LN CT (cp, lv, a1, a2, a3, a4, a5, a6, a7, a8, a9)) (hf : f < 4) (p3 : ex f = false → post (-3)) (p5 : ex f = true → (∀ s, s < 5 → h s f = false) → post (-5))
    (p0 : ex f = true → ∀ s, s < 5 → h s f = true → post 0) : wpX_refusal post (cp, lv, a1, a2, a3, a4, a5, a6, a7, a8, a9) (nI f) := by
  unfold wpX_refusal
  refine qc_badFile hf (br_t rfl ⟨vp_in_nI hf (by decide), ?_⟩)
  rw [nI_clamp (show f < 2 ^ 31 by omega)]
  cases e : ex f
  · exact br_t (qc_exF M.2.2.1 hf e) (p3 e)
  · exact br_f (qc_exT M.2.2.1 hf e) (qc_source M hf (fun z => br_f (by decide) (p5 e z)) (fun s hs z => br_t (nI_pos' (by omega)) (p0 e s hs z)))
theorem qc_read {post : Int32 → Prop} {c : Nat} (M : qc_M n ex h LN CT (cp, lv, a1, a2, a3, a4, a5, a6, a7, a8, a9)) (hf : f < 4) (hc : c < 6) (p3 : ex f = false → post (-3)) (p5 : ex f = true → (∀ s, s < 5 → h s f = false) → post (-5))
    (hp : ex f = true → ∀ s, s < 5 → h s f = true → post (CT f c)) : wpX_read post (cp, lv, a1, a2, a3, a4, a5, a6, a7, a8, a9) (nI f) (nI c) := by
  unfold wpX_read
  refine qc_refusal M hf (fun z => br_f (by decide) (p3 z)) (fun z y => br_f (by decide) (p5 z y)) (fun z s0 hs0 e0 => br_t rfl (br_f (nI_pos (by omega)) (pk_lt c 6 (fun _ => ?_) (fun z => absurd z (by omega)))))
  refine qc_source M hf (fun y => qc_ft (y s0 hs0) e0) (fun s hs e => ?_)
  have M' := M
  obtain ⟨hc', hx, U, B, hB, st, C⟩ := M'
  have b : B s f < 4 := (hB s f hs hf).mp e
  obtain ⟨r1, r2, r3, r4⟩ := C s f hs hf b
  have hq : s * 4 + B s f < 20 := by omega
  rw [qc_ixc hs hf, qc_str_t st hs hf b, qc_ix6c hq hc, r3 c hc]
  exact ⟨qc_ixv hs hf, qc_ix6v hq hc, hp z s hs e⟩
theorem qc_length {post : Int32 → Prop} (M : qc_M n ex h LN CT (cp, lv, a1, a2, a3, a4, a5, a6, a7, a8, a9)) (hf : f < 4) (p3 : ex f = false → post (-3)) (p5 : ex f = true → (∀ s, s < 5 → h s f = false) → post (-5))
    (hp : ex f = true → ∀ s, s < 5 → h s f = true → post (nI (LN f))) : wpX_length post (cp, lv, a1, a2, a3, a4, a5, a6, a7, a8, a9) (nI f) := by
  unfold wpX_length
  refine qc_refusal M hf (fun z => br_f (by decide) (p3 z)) (fun z y => br_f (by decide) (p5 z y)) (fun z s0 hs0 e0 => br_t rfl ?_)
  refine qc_source M hf (fun y => qc_ft (y s0 hs0) e0) (fun s hs e => ?_)
  have M' := M
  obtain ⟨hc', hx, U, B, hB, st, C⟩ := M'
  have b : B s f < 4 := (hB s f hs hf).mp e
  obtain ⟨r1, r2, r3, r4⟩ := C s f hs hf b
  have hq : s * 4 + B s f < 20 := by omega
  rw [qc_ixc hs hf, qc_str_t st hs hf b, nI_clamp (show s * 4 + B s f < 2 ^ 31 by omega), r2]
  exact ⟨qc_ixv hs hf, vp_in_nI hq (by decide), hp z s hs e⟩
theorem qc_replicas {post : Int32 → Prop} (M : qc_M n ex h LN CT (cp, lv, a1, a2, a3, a4, a5, a6, a7, a8, a9)) (hf : f < 4) (p3 : ex f = false → post (-3)) (hp : ex f = true → post (qc_set (fun s => h s f) 5)) :
    wpX_replicas post (cp, lv, a1, a2, a3, a4, a5, a6, a7, a8, a9) (nI f) := by
  unfold wpX_replicas
  refine qc_badFile hf (br_t rfl ⟨vp_in_nI hf (by decide), ?_⟩)
  rw [nI_clamp (show f < 2 ^ 31 by omega)]
  cases e : ex f
  · exact br_t (qc_exF M.2.2.1 hf e) (p3 e)
  · exact br_f (qc_exT M.2.2.1 hf e) (qc_currentSet M hf (hp e))
end
end
section
/-! a file's own block, and writing -/
section
variable {cp lv : Int32} {a1 a2 a3 a4 a5 a6 a7 a8 a9 : Nat → Int32} {B : Nat → Nat → Nat} {s f : Nat}
theorem qc_ownBlock {post : Int32 → St2 → Prop} {ln : Nat → Nat → Nat} {ct : Nat → Nat → Nat → Int32} (st : qc_str a4 a9 B) (C : qc_C a3 a5 a6 a7 a8 B ln ct) (hs : s < 5) (hf : f < 4) (hB : B s f < 4)
    (hp : ∀ b b4 b6 b7 b8 b9, b < 4 → qc_str b4 b9 (qc_up B s f b) → qc_C a3 a5 b6 b7 b8 (qc_up B s f b) ln ct → (∀ f', f' < 4 → f' ≠ f → qc_up B s f b s f' ≠ b) → post (nI (s * 4 + b)) (cp, lv, a1, a2, a3, b4, a5, b6, b7, b8, b9)) :
    wpX_ownBlock post (cp, lv, a1, a2, a3, a4, a5, a6, a7, a8, a9) (nI s) (nI f) := by
  have hq : s * 4 + B s f < 20 := by omega
  have cl : (nI (s * 4 + B s f)).toNatClampNeg = s * 4 + B s f := nI_clamp (by omega)
  have hl := qc_cnt_le (B s) (B s f)
  have h9 := st.2 s (B s f) hs hB
  refine And.intro (qc_ixv hs hf) (nm_r (e' := nI (s * 4 + B s f)) (by rw [qc_ixc hs hf]; exact qc_str_t st hs hf hB) ⟨vp_in_nI hq (by decide), ?_⟩)
  refine pk_eq (qc_cnt (B s) (B s f)) 1 (fun z => ?_) (fun z => ?_) (by rw [cl, h9])
  · have e := qc_up_id (B := B) (s := s) (f := f)
    refine hp (B s f) a4 a6 a7 a8 a9 hB (by rw [e]; exact st) (by rw [e]; exact C) (by rw [e]; exact qc_cnt1 z hf rfl)
  · have hp1 := qc_cnt_pos (g := B s) (b := B s f) hf rfl
    refine qc_freeBlock st hs (fun k0 k1 k2 => ?_) (fun b hb hc => ?_)
    · have := qc_pig (B s)
      rcases qc_4 hB with k | k | k | k <;> rw [k] at z hp1 <;> omega
    · have hn : B s f ≠ b := qc_cnt0 hc hf
      have hq2 : s * 4 + b < 20 := by omega
      refine qc_copyBlock hq hq2 (by omega) (fun b6 c1 c2 => ?_)
      refine And.intro (vp_in_nI hq (by decide)) ⟨vp_in_nI hq (by decide), nm_e ⟨vp_in_nI hq2 (by decide), nm_e ⟨qc_ixv hs hf, nm_e ?_⟩⟩⟩
      rw [qc_ixc hs hf, cl, nI_clamp (show s * 4 + b < 2 ^ 31 by omega)]
      have xc : ∀ f', f' < 4 → f' ≠ f → qc_up B s f b s f' ≠ b := fun f' hf' hne => by
        rw [qc_up_o (fun y => hne y.2)]; exact qc_cnt0 hc hf'
      obtain ⟨r1, r2, r3, r4⟩ := C s f hs hf hB
      refine hp b _ _ _ _ _ hb (qc_str_up (v := b) st hs hf (if_pos hb).symm (fun b' hb' => ?_) (fun j hj => ?_)) ?_ xc
      · have c := qc_cnt_set (B s) hf b b'
        by_cases e : b' = b
        · rw [e] at c ⊢
          rw [qc_e1 rfl, hc, qc_e0 hn] at c
          rw [pk_us, show qc_cnt (qc_set1 (B s) f b) b = 1 by omega]
          rfl
        · rw [qc_e0 (fun y => e y.symm)] at c
          rw [pk_un (by omega)]
          by_cases e2 : b' = B s f
          · rw [e2] at c ⊢
            rw [qc_e1 rfl] at c
            rw [pk_us, h9, show qc_cnt (B s) (B s f) = qc_cnt (qc_set1 (B s) f b) (B s f) + 1 by omega]
            exact nI_pred _
          · rw [qc_e0 (fun y => e2 y.symm)] at c
            rw [pk_un (by omega), st.2 s b' hs hb', show qc_cnt (B s) b' = qc_cnt (qc_set1 (B s) f b) b' by omega]
      · rw [pk_un (by omega), pk_un (by omega)]
      · refine qc_put (a6 := a6) (a7 := a7) (a8 := a8) (ln := ln) (ct := ct) hs hf (by rw [qc_up_sf]; exact hb) (by rw [qc_up_sf]; exact xc) (fun s' f' hs' hf' hne hb' => ?_) r1 ?_ ?_ ?_ ?_ ?_ ?_ (fun _ _ _ _ _ => ⟨rfl, rfl⟩)
        · rw [qc_up_o hne] at hb' ⊢
          exact C s' f' hs' hf' hb'
        · rw [qc_up_sf, pk_us]; exact r2
        · intro j hj
          rw [qc_up_sf] at hj
          exact pk_un hj
        · intro i hi
          rw [qc_up_sf, c1 i hi]; exact r3 i hi
        · intro j hj
          rw [qc_up_sf] at hj
          exact c2 j hj
        · rw [qc_up_sf, pk_us]; exact r4
        · intro j hj
          rw [qc_up_sf] at hj
          exact pk_un hj
end
/-- length and cells of file f after the servers below i were written -/
def qc_lnI (LN : Nat → Nat) (f c i : Nat) : Nat → Nat → Nat := fun s' f' => if f' = f ∧ s' < i then max (LN f) (c + 1) else LN f'
def qc_ctI (CT : Nat → Nat → Int32) (f c : Nat) (v : Int32) (i : Nat) : Nat → Nat → Nat → Int32 := fun s' f' => if f' = f ∧ s' < i then upd (CT f) c v else CT f'
def qc_LNw (LN : Nat → Nat) (f l : Nat) : Nat → Nat := fun f' => if f' = f then l else LN f'
def qc_CTw (CT : Nat → Nat → Int32) (f : Nat) (c : Nat → Int32) : Nat → Nat → Int32 := fun f' => if f' = f then c else CT f'
theorem qc_LNs {LN : Nat → Nat} {f l : Nat} : qc_LNw LN f l f = l := if_pos rfl
theorem qc_LNn {LN : Nat → Nat} {f l f' : Nat} (h : f' ≠ f) : qc_LNw LN f l f' = LN f' := if_neg h
theorem qc_CTs {CT : Nat → Nat → Int32} {f : Nat} {c : Nat → Int32} : qc_CTw CT f c f = c := if_pos rfl
theorem qc_CTn {CT : Nat → Nat → Int32} {f f' : Nat} {c : Nat → Int32} (h : f' ≠ f) : qc_CTw CT f c f' = CT f' := if_neg h
theorem qc_mut74 {post : Int32 → St2 → Prop} {h : Nat → Nat → Bool} {LN : Nat → Nat} {CT : Nat → Nat → Int32} {cp lv v : Int32} {a1 a2 a3 a5 : Nat → Int32} {f c : Nat} (hf : f < 4) (hc : c < 6) (hL : LN f < 2 ^ 30)
    (hp : ∀ (B : Nat → Nat → Nat) b4 b6 b7 b8 b9, (∀ s f, s < 5 → f < 4 → (h s f = true ↔ B s f < 4)) → qc_str b4 b9 B → qc_C a3 a5 b6 b7 b8 B (qc_lnI LN f c 5) (qc_ctI CT f c v 5) → post (nI (qc_pop (fun s => h s f) 5)) (cp, lv, a1, a2, a3, b4, a5, b6, b7, b8, b9)) :
    ∀ k i, i + k = 5 → ∀ (B : Nat → Nat → Nat) a4 a6 a7 a8 a9, (∀ s f, s < 5 → f < 4 → (h s f = true ↔ B s f < 4)) → qc_str a4 a9 B → qc_C a3 a5 a6 a7 a8 B (qc_lnI LN f c i) (qc_ctI CT f c v i) →
      wX_mutate_74 post (nI f) (nI c) v (qc_set (fun s => h s f) 5) (k + 1) (nI i) cp lv a1 a2 a3 a4 a5 a6 a7 a8 a9 := by
  intro k
  induction k with
  | zero =>
    intro i hi B a4 a6 a7 a8 a9 hB st C
    have e : i = 5 := by omega
    rw [e] at C ⊢
    exact pk_le 5 5 (fun _ => qc_bits _ (hp B a4 a6 a7 a8 a9 hB st C)) (fun z => absurd z (by omega))
  | succ k ih =>
    intro i hi B a4 a6 a7 a8 a9 hB st C
    have i5 : i < 5 := by omega
    refine pk_le 5 i (fun z => absurd z (by omega)) (fun _ => ?_)
    cases e : h i f
    · refine br_f (qc_bitn i5 e) (nm_r (nI_1 i) (ih (i + 1) (by omega) B a4 a6 a7 a8 a9 hB st ?_))
      intro s' f' hs' hf' hb'
      have r := C s' f' hs' hf' hb'
      have ne : ¬ (f' = f ∧ s' = i) := fun z => by
        rw [z.1, z.2] at hb'
        exact qc_ft e ((hB i f i5 hf).mpr hb')
      have q : (f' = f ∧ s' < i + 1) ↔ (f' = f ∧ s' < i) := by omega
      have q1 : qc_lnI LN f c (i + 1) s' f' = qc_lnI LN f c i s' f' := by
        unfold qc_lnI; simp only [q]
      have q2 : qc_ctI CT f c v (i + 1) s' f' = qc_ctI CT f c v i s' f' := by
        unfold qc_ctI; simp only [q]
      rw [q1, q2]
      exact r
    · refine br_t (qc_bit1 i5 e) (qc_ownBlock st C i5 hf ((hB i f i5 hf).mp e) (fun b b4 b6 b7 b8 b9 hb st' C' xc => ?_))
      have hq : i * 4 + b < 20 := by omega
      have cl : (nI (i * 4 + b)).toNatClampNeg = i * 4 + b := nI_clamp (by omega)
      have hB' : ∀ s' f', s' < 5 → f' < 4 → (h s' f' = true ↔ qc_up B i f b s' f' < 4) := fun s' f' hs' hf' => by
        by_cases z : s' = i ∧ f' = f
        · rw [z.1, z.2, qc_up_sf]
          exact ⟨fun _ => hb, fun _ => e⟩
        · rw [qc_up_o z]
          exact hB s' f' hs' hf'
      have C0 := C' i f i5 hf (by rw [qc_up_sf]; exact hb)
      rw [qc_up_sf, show qc_lnI LN f c i i f = LN f from if_neg (by omega), show qc_ctI CT f c v i i f = CT f from if_neg (by omega)] at C0
      obtain ⟨r1, r2, r3, r4⟩ := C0
      have n1 : qc_lnI LN f c (i + 1) i f = max (LN f) (c + 1) := if_pos ⟨rfl, by omega⟩
      have n2 : qc_ctI CT f c v (i + 1) i f = upd (CT f) c v := if_pos ⟨rfl, by omega⟩
      have key : ∀ b7', b7' (i * 4 + b) = nI (max (LN f) (c + 1)) → (∀ j, j ≠ i * 4 + b → b7' j = b7 j) →
          wX_mutate_136 post (wX_mutate_74 post (nI f) (nI c) v (qc_set (fun s => h s f) 5) (k + 1)) (nI f) (nI c) v (qc_set (fun s => h s f) 5) (nI i) (nI (i * 4 + b)) cp lv a1 a2 a3 b4 a5 (upd b6 ((i * 4 + b) * 6 + c) v) b7' b8 b9 := by
        intro b7' g7 o7
        have g6 : ∀ j, j < 6 → upd b6 ((i * 4 + b) * 6 + c) v ((i * 4 + b) * 6 + j) = upd (CT f) c v j := fun j hj => by
          by_cases z : j = c
          · rw [z, pk_us, pk_us]
          · rw [pk_un (by omega), pk_un z]; exact r3 j hj
        unfold wX_mutate_136
        refine qc_sumOf (l := nI (max (LN f) (c + 1))) (c := upd (CT f) c v) hq g7 g6 ⟨vp_in_nI hq (by decide), nm_r (e' := upd b8 (i * 4 + b) (qc_sm (nI (max (LN f) (c + 1))) (upd (CT f) c v) 6)) (by rw [cl]) (nm_r (nI_1 i) (ih (i + 1) (by omega) (qc_up B i f b) b4 _ b7' _ b9 hB' st' ?_))⟩
        refine qc_put (a6 := b6) (a7 := b7) (a8 := b8) (ln := qc_lnI LN f c i) (ct := qc_ctI CT f c v i) i5 hf (by rw [qc_up_sf]; exact hb) (by rw [qc_up_sf]; exact xc) (fun s' f' hs' hf' _ hb' => C' s' f' hs' hf' hb') r1 ?_ ?_ ?_ ?_ ?_ ?_ ?_
        · rw [qc_up_sf, n1]; exact g7
        · intro j hj
          rw [qc_up_sf] at hj
          exact o7 j hj
        · intro j hj
          rw [qc_up_sf, n2]; exact g6 j hj
        · intro j hj
          rw [qc_up_sf] at hj
          exact pk_un (by omega)
        · rw [qc_up_sf, pk_us, n1, n2]
        · intro j hj
          rw [qc_up_sf] at hj
          exact pk_un hj
        · intro s' f' hs' hf' z
          have q : (f' = f ∧ s' < i + 1) ↔ (f' = f ∧ s' < i) := by omega
          refine ⟨?_, ?_⟩
          · unfold qc_lnI; simp only [q]
          · unfold qc_ctI; simp only [q]
      refine And.intro (qc_ix6v hq hc) (nm_r (e' := upd b6 ((i * 4 + b) * 6 + c) v) (by rw [qc_ix6c hq hc]) ⟨vp_in_nI hq (by decide), ?_⟩)
      rw [cl]
      refine pk_le (c + 1) (LN f) (fun z => ?_) (fun z => ⟨vp_in_nI hq (by decide), nm_e ?_⟩) (nI_1 c) r2
      · exact key b7 (by rw [r2, Nat.max_eq_left z]) (fun _ _ => rfl)
      · refine key _ ?_ (fun j hj => pk_un hj)
        rw [pk_us, nI_1, Nat.max_eq_right (by omega)]
section
variable {cp lv : Int32} {a1 a2 a3 a4 a5 a6 a7 a8 a9 : Nat → Int32} {n : Nat} {ex : Nat → Bool} {h : Nat → Nat → Bool} {LN : Nat → Nat} {CT : Nat → Nat → Int32} {s f c : Nat} {v : Int32}
theorem qc_mutate {post : Int32 → St2 → Prop} (M : qc_M n ex h LN CT (cp, lv, a1, a2, a3, a4, a5, a6, a7, a8, a9)) (hf : f < 4) (hc : c < 6) (hL : LN f < 2 ^ 30)
    (hp : ∀ u, qc_M n ex h (qc_LNw LN f (max (LN f) (c + 1))) (qc_CTw CT f (upd (CT f) c v)) u → post (nI (qc_pop (fun s => h s f) 5)) u) :
    wpX_mutate post (cp, lv, a1, a2, a3, a4, a5, a6, a7, a8, a9) (nI f) (nI c) v := by
  unfold wpX_mutate
  refine qc_currentSet M hf (qc_upSet M.2.2.1.1 (nm_r (qc_31a _) (br_t rfl ?_)))
  obtain ⟨hc', hx, U, B, hB, st, C⟩ := M
  refine ⟨6, qc_mut74 (LN := LN) (CT := CT) hf hc hL (fun B' b4 b6 b7 b8 b9 hB' st' C' => hp _ ⟨hc', hx, U, B', hB', st', fun s' f' hs' hf' hb' => ?_⟩) 5 0 rfl B a4 a6 a7 a8 a9 hB st (fun s' f' hs' hf' hb' => ?_)⟩
  · have r := C' s' f' hs' hf' hb'
    have q : (f' = f ∧ s' < 5) ↔ f' = f := by omega
    have q1 : qc_lnI LN f c 5 s' f' = qc_LNw LN f (max (LN f) (c + 1)) f' := by
      unfold qc_lnI qc_LNw; simp only [q]
    have q2 : qc_ctI CT f c v 5 s' f' = qc_CTw CT f (upd (CT f) c v) f' := by
      unfold qc_ctI qc_CTw; simp only [q]
    rw [q1, q2] at r
    exact r
  · rw [show qc_lnI LN f c 0 s' f' = LN f' from if_neg (by omega), show qc_ctI CT f c v 0 s' f' = CT f' from if_neg (by omega)]
    exact C s' f' hs' hf' hb'
theorem qc_write {post : Int32 → St2 → Prop} (M : qc_M n ex h LN CT (cp, lv, a1, a2, a3, a4, a5, a6, a7, a8, a9)) (hf : f < 4) (hc : c < 6) (hL : LN f < 2 ^ 30) (he : ex f = true) (hs : s < 5) (hh : h s f = true)
    (hp : ∀ u, qc_M n ex h (qc_LNw LN f (max (LN f) (c + 1))) (qc_CTw CT f (upd (CT f) c v)) u → post (nI (qc_pop (fun s => h s f) 5)) u) :
    wpX_write post (cp, lv, a1, a2, a3, a4, a5, a6, a7, a8, a9) (nI f) (nI c) v := by
  unfold wpX_write
  refine qc_refusal M hf (fun z => qc_ft z he) (fun _ z => qc_ft (z s hs) hh) (fun _ _ _ _ => br_t rfl (br_f (nI_pos (by omega)) (pk_lt c 6 (fun _ => ?_) (fun z => absurd z (by omega)))))
  exact qc_mutate M hf hc hL (fun u hu => hp u hu)
theorem qc_append {post : Int32 → St2 → Prop} (M : qc_M n ex h LN CT (cp, lv, a1, a2, a3, a4, a5, a6, a7, a8, a9)) (hf : f < 4) (hL : LN f < 2 ^ 30) (he : ex f = true) (hs : s < 5) (hh : h s f = true)
    (hp : LN f < 6 → ∀ u, qc_M n ex h (qc_LNw LN f (LN f + 1)) (qc_CTw CT f (upd (CT f) (LN f) v)) u → post (nI (LN f)) u)
    (h7 : 6 ≤ LN f → post (-7) (cp, lv, a1, a2, a3, a4, a5, a6, a7, a8, a9)) :
    wpX_append post (cp, lv, a1, a2, a3, a4, a5, a6, a7, a8, a9) (nI f) v := by
  unfold wpX_append
  refine qc_refusal M hf (fun z => qc_ft z he) (fun _ z => qc_ft (z s hs) hh) (fun _ _ _ _ => br_t rfl ?_)
  refine qc_source M hf (fun z => qc_ft (z s hs) hh) (fun s1 hs1 e => ?_)
  have M' := M
  obtain ⟨hc', hx, U, B, hB, st, C⟩ := M'
  have b : B s1 f < 4 := (hB s1 f hs1 hf).mp e
  obtain ⟨r1, r2, r3, r4⟩ := C s1 f hs1 hf b
  have hq : s1 * 4 + B s1 f < 20 := by omega
  rw [qc_ixc hs1 hf, qc_str_t st hs1 hf b, nI_clamp (show s1 * 4 + B s1 f < 2 ^ 31 by omega), r2]
  refine ⟨qc_ixv hs1 hf, vp_in_nI hq (by decide), nm_e (pk_lt (LN f) 6 (fun z => ?_) (fun z => h7 z))⟩
  refine qc_mutate M hf z hL (fun u hu => ?_)
  rw [Nat.max_eq_right (Nat.le_succ _)] at hu
  exact hp z u hu
end
end
section
/-! files come and go -/
def qc_ex (ex : Nat → Bool) (g : Nat) (b : Bool) : Nat → Bool := fun f => if f = g then b else ex f
def qc_hs (h : Nat → Nat → Bool) (s f : Nat) (b : Bool) : Nat → Nat → Bool := fun s' f' => if s' = s ∧ f' = f then b else h s' f'
theorem qc_ex_s {ex : Nat → Bool} {g : Nat} {b : Bool} : qc_ex ex g b g = b := if_pos rfl
theorem qc_ex_n {ex : Nat → Bool} {g f : Nat} {b : Bool} (h : f ≠ g) : qc_ex ex g b f = ex f := if_neg h
theorem qc_hs_s {h : Nat → Nat → Bool} {s f : Nat} {b : Bool} : qc_hs h s f b s f = b := if_pos ⟨rfl, rfl⟩
theorem qc_hs_n {h : Nat → Nat → Bool} {s f s' f' : Nat} {b : Bool} (e : ¬ (s' = s ∧ f' = f)) : qc_hs h s f b s' f' = h s' f' := if_neg e
section
variable {cp lv : Int32} {a1 a2 a3 a4 a5 a6 a7 a8 a9 : Nat → Int32} {n : Nat} {ex : Nat → Bool} {h : Nat → Nat → Bool} {LN : Nat → Nat} {CT : Nat → Nat → Int32} {s f g : Nat}
theorem qc_M_new (M : qc_M n ex h LN CT (cp, lv, a1, a2, a3, a4, a5, a6, a7, a8, a9)) (hg : g < 4) (e : ex g = false) (l : Nat) (c : Nat → Int32) (lv' x : Int32) :
    qc_M n (qc_ex ex g true) h (qc_LNw LN g l) (qc_CTw CT g c) (cp, lv', a1, upd a2 g 1, upd a3 g x, a4, a5, a6, a7, a8, a9) := by
  obtain ⟨hc, hx, U, B, hB, st, C⟩ := M
  refine ⟨hc, fun s f hs hf z => ?_, ⟨U.1, fun f hf => ?_⟩, B, hB, st, fun s f hs hf hb => ?_⟩
  · by_cases d : f = g
    · rw [d, qc_ex_s]
    · rw [qc_ex_n d]; exact hx s f hs hf z
  · by_cases d : f = g
    · rw [d, pk_us, qc_ex_s]; rfl
    · rw [pk_un d, qc_ex_n d]; exact U.2 f hf
  · have d : f ≠ g := fun d => by
      rw [d] at hb
      exact qc_ft e (hx s g hs hg ((hB s g hs hg).mpr hb))
    have r := C s f hs hf hb
    show qc_rep (upd a3 g x) a5 a6 a7 a8 s f (B s f) (qc_LNw LN g l f) (qc_CTw CT g c f)
    rw [qc_LNn d, qc_CTn d]
    exact ⟨r.1.trans (pk_un d).symm, r.2⟩
theorem qc_newVersion {post : St2 → Prop} (hf : f < 4) (hp : post (cp, lv + 1, a1, a2, upd a3 f (lv + 1), a4, a5, a6, a7, a8, a9)) : wpX_newVersion post (cp, lv, a1, a2, a3, a4, a5, a6, a7, a8, a9) (nI f) :=
  nm_e ⟨vp_in_nI hf (by decide), nm_r (by rw [nI_clamp (show f < 2 ^ 31 by omega)]) hp⟩
/-- a replica on a block of its own is added, with the file's length and cells -/
theorem qc_M_add {B : Nat → Nat → Nat} {r b : Nat} {b4 b6 b7 b8 b9 : Nat → Int32} (hc : cp = nI n) (hx : ∀ s f, s < 5 → f < 4 → h s f = true → ex f = true) (U : qc_U ex a1 a2)
    (hB : ∀ s f, s < 5 → f < 4 → (h s f = true ↔ B s f < 4)) (C : qc_C a3 a5 a6 a7 a8 B (fun _ f => LN f) (fun _ f => CT f)) (hr : r < 5) (hf : f < 4) (he : ex f = true) (hb : b < 4)
    (st : qc_str b4 b9 (qc_up B r f b)) (xc : ∀ f', f' < 4 → f' ≠ f → qc_up B r f b r f' ≠ b)
    (h7 : b7 (r * 4 + b) = nI (LN f)) (h7o : ∀ j, j ≠ r * 4 + b → b7 j = a7 j)
    (h6 : ∀ i, i < 6 → b6 ((r * 4 + b) * 6 + i) = CT f i) (h6o : ∀ j, (j < (r * 4 + b) * 6 ∨ (r * 4 + b) * 6 + 6 ≤ j) → b6 j = a6 j)
    (h8 : b8 (r * 4 + b) = qc_sm (nI (LN f)) (CT f) 6) (h8o : ∀ j, j ≠ r * 4 + b → b8 j = a8 j) :
    qc_M n ex (qc_hs h r f true) LN CT (cp, lv, a1, a2, a3, b4, upd a5 (r * 4 + f) (a3 f), b6, b7, b8, b9) := by
  refine ⟨hc, fun s' f' hs' hf' z => ?_, U, qc_up B r f b, fun s' f' hs' hf' => ?_, st, ?_⟩
  · by_cases e : s' = r ∧ f' = f
    · rw [e.2]; exact he
    · rw [qc_hs_n e] at z; exact hx s' f' hs' hf' z
  · by_cases e : s' = r ∧ f' = f
    · rw [e.1, e.2, qc_hs_s, qc_up_sf]
      exact ⟨fun _ => hb, fun _ => rfl⟩
    · rw [qc_hs_n e, qc_up_o e]; exact hB s' f' hs' hf'
  · refine qc_put (a6 := a6) (a7 := a7) (a8 := a8) (ln := fun _ f => LN f) (ct := fun _ f => CT f) hr hf (by rw [qc_up_sf]; exact hb) (by rw [qc_up_sf]; exact xc) (fun s' f' hs' hf' e hb' => ?_) pk_us ?_ ?_ ?_ ?_ ?_ ?_ (fun _ _ _ _ _ => ⟨rfl, rfl⟩)
    · rw [qc_up_o e] at hb' ⊢
      have t := C s' f' hs' hf' hb'
      exact ⟨(pk_un (by omega)).trans t.1, t.2⟩
    · rw [qc_up_sf]; exact h7
    · intro j hj
      rw [qc_up_sf] at hj
      exact h7o j hj
    · intro i hi
      rw [qc_up_sf]; exact h6 i hi
    · intro j hj
      rw [qc_up_sf] at hj
      exact h6o j hj
    · rw [qc_up_sf]; exact h8
    · intro j hj
      rw [qc_up_sf] at hj
      exact h8o j hj
/-- create's inner loop: the cells, then the length and the check -/
theorem qc_cr91 {post : Int32 → St2 → Prop} {J : Int32 → Int32 → Int32 → Int32 → Int32 → (Nat → Int32) → (Nat → Int32) → (Nat → Int32) → (Nat → Int32) → (Nat → Int32) → (Nat → Int32) → (Nat → Int32) → (Nat → Int32) → (Nat → Int32) → Prop} {x1 x2 : Int32} {i q : Nat} (hq : q < 20)
    (hp : ∀ b6 b7 b8, b7 q = nI 0 → (∀ j, j ≠ q → b7 j = a7 j) → (∀ i, i < 6 → b6 (q * 6 + i) = 0) → (∀ j, (j < q * 6 ∨ q * 6 + 6 ≤ j) → b6 j = a6 j) → b8 q = qc_sm (nI 0) (fun _ => 0) 6 → (∀ j, j ≠ q → b8 j = a8 j) →
      J x2 (nI (i + 1)) (nI (i + 1)) cp lv a1 a2 a3 a4 a5 b6 b7 b8 a9) :
    ∃ fu, wX_create_91 post J x1 x2 (nI i) (nI i) (nI q) cp lv fu 0 a1 a2 a3 a4 a5 a6 a7 a8 a9 := by
  have cl : (nI q).toNatClampNeg = q := nI_clamp (by omega)
  refine pk_loop (fun n c t => wX_create_91 post J x1 x2 (nI i) (nI i) (nI q) cp lv n (nI c) a1 a2 a3 a4 a5 t a7 a8 a9) (fun c t => (∀ k, k < c → t (q * 6 + k) = 0) ∧ (∀ j, (j < q * 6 ∨ q * 6 + c ≤ j) → t j = a6 j)) 6 0 a6 (by omega) ⟨fun j hj => absurd hj (by omega), fun j hj => rfl⟩ ?_ ?_
  · intro m t e
    refine pk_le 6 6 (fun _ => ⟨vp_in_nI hq (by decide), nm_r (e' := upd a7 q 0) (by rw [cl]) ?_⟩) (fun z => absurd z (by omega))
    refine qc_sumOf (l := nI 0) (c := fun _ => 0) hq pk_us e.1 ⟨vp_in_nI hq (by decide), nm_r (e' := upd a8 q (qc_sm (nI 0) (fun _ => 0) 6)) (by rw [cl]) (nm_r (nI_1 i) (nm_r (nI_1 i) ?_))⟩
    exact hp t _ _ pk_us (fun j hj => pk_un hj) e.1 e.2 pk_us (fun j hj => pk_un hj)
  · intro m c t hc e hw
    refine pk_le 6 c (fun z => absurd z (by omega)) (fun _ => ⟨qc_ix6v hq hc, nm_r (e' := upd t (q * 6 + c) 0) (by rw [qc_ix6c hq hc]) (nm_r (nI_1 c) (hw _ ⟨fun k hk => ?_, fun j hj => ?_⟩))⟩)
    · by_cases d : k = c
      · rw [d, pk_us]
      · rw [pk_un (by omega)]; exact e.1 k (by omega)
    · rw [pk_un (by omega)]; exact e.2 j (by omega)
end
theorem qc_cr50 {post : Int32 → St2 → Prop} {n : Nat} {ex : Nat → Bool} {h : Nat → Nat → Bool} {LN : Nat → Nat} {CT : Nat → Nat → Int32} {f : Nat} (hn : n ≤ 3) (hf : f < 4) (he : ex f = true) (hL : LN f = 0) (hC : CT f = fun _ => 0)
    (J : Nat → (Nat → Nat → Bool) → Prop)
    (hJ : ∀ i h1 r, i < n → r < 5 → J i h1 → (∀ s f', f' ≠ f → h1 s f' = h s f') → h1 r f = false → (∀ j, j < 5 → h1 j f = false → qc_pop (h1 r) 4 ≤ qc_pop (h1 j) 4 ∧ (j < r → qc_pop (h1 r) 4 < qc_pop (h1 j) 4)) → J (i + 1) (qc_hs h1 r f true))
    (hp : ∀ h1 u, qc_M n ex h1 LN CT u → (∀ s f', f' ≠ f → h1 s f' = h s f') → qc_pop (fun s => h1 s f) 5 = n → J n h1 → post (nI n) u) :
    ∀ k i, i + k = n → ∀ h1 cp lv a1 a2 a3 a4 a5 a6 a7 a8 a9, qc_M n ex h1 LN CT (cp, lv, a1, a2, a3, a4, a5, a6, a7, a8, a9) → (∀ s f', f' ≠ f → h1 s f' = h s f') → qc_pop (fun s => h1 s f) 5 = i → J i h1 →
      wX_create_50 post (nI f) (k + 1) (qc_set (fun s => !h1 s f) 5) (nI i) (nI i) cp lv a1 a2 a3 a4 a5 a6 a7 a8 a9 := by
  intro k
  induction k with
  | zero =>
    intro i hi h1 cp lv a1 a2 a3 a4 a5 a6 a7 a8 a9 M fr pp j
    have e : i = n := by omega
    rw [e] at pp j ⊢
    exact pk_le n n (fun _ => hp h1 _ M fr pp j) (fun z => absurd z (by omega)) M.1
  | succ k ih =>
    intro i hi h1 cp lv a1 a2 a3 a4 a5 a6 a7 a8 a9 M fr pp j
    obtain ⟨s0, hs0, e0⟩ := qc_pop_ex (h := fun s => h1 s f) 5 (by omega)
    have e0' : (!h1 s0 f) = true := by rw [show h1 s0 f = false from e0]; rfl
    refine pk_le n i (fun z => absurd z (by omega)) (fun _ => br_f (fun z => qc_ft (qc_zero z hs0) e0') ?_) M.1
    refine qc_firstOf M (fun s => !h1 s f) (fun z => qc_ft (z s0 hs0) e0') (fun r hr gr mn => nm_r (qc_del _ hr) ?_)
    have gr' : h1 r f = false := by
      cases z : h1 r f
      · rfl
      · rw [z] at gr; exact absurd gr (by decide)
    have M0 := M
    obtain ⟨hc, hx, U, B, hB, st, C⟩ := M0
    refine qc_newReplica st hr hf (fun b b4 b9 hb st' xc => ?_)
    have hq : r * 4 + b < 20 := by omega
    refine qc_cr91 hq (fun b6 b7 b8 h7 h7o h6 h6o h8 h8o => ?_)
    have M2 := qc_M_add (lv := lv) hc hx U hB C hr hf he hb st' xc (by rw [hL]; exact h7) h7o (by rw [hC]; exact h6) h6o (by rw [hL, hC]; exact h8) h8o
    have es : qc_set (fun s => (!h1 s f) && !decide (s = r)) 5 = qc_set (fun s => !qc_hs h1 r f true s f) 5 := qc_set_congr 5 (fun s hs => by
      by_cases d : s = r
      · rw [d, qc_hs_s]; simp
      · rw [qc_hs_n (fun z => d z.1)]; simp [d])
    rw [es]
    refine ih (i + 1) (by omega) _ _ _ _ _ _ _ _ _ _ _ _ M2 (fun s f' hne => ?_) ?_ (hJ i h1 r (by omega) hr j fr gr' (fun j' hj' ej' => mn j' hj' (by rw [ej']; rfl)))
    · rw [qc_hs_n (fun z => hne z.2)]; exact fr s f' hne
    · have := qc_pop_add (h := fun s => h1 s f) (g := fun s => qc_hs h1 r f true s f) (r := r) gr' qc_hs_s (fun s d => qc_hs_n (fun z => d z.1)) 5
      rw [if_pos hr, pp] at this
      exact this
section
variable {cp lv : Int32} {a1 a2 a3 a4 a5 a6 a7 a8 a9 : Nat → Int32} {n : Nat} {ex : Nat → Bool} {h : Nat → Nat → Bool} {LN : Nat → Nat} {CT : Nat → Nat → Int32} {s f g : Nat}
theorem qc_create {post : Int32 → St2 → Prop} (M : qc_M n ex h LN CT (cp, lv, a1, a2, a3, a4, a5, a6, a7, a8, a9)) (hn : n ≤ 3) (hf : f < 4) (he : ex f = false)
    (J : Nat → (Nat → Nat → Bool) → Prop) (j0 : J 0 h)
    (hJ : ∀ i h1 r, i < n → r < 5 → J i h1 → (∀ s f', f' ≠ f → h1 s f' = h s f') → h1 r f = false → (∀ j, j < 5 → h1 j f = false → qc_pop (h1 r) 4 ≤ qc_pop (h1 j) 4 ∧ (j < r → qc_pop (h1 r) 4 < qc_pop (h1 j) 4)) → J (i + 1) (qc_hs h1 r f true))
    (hp : ∀ h1 u, qc_M n (qc_ex ex f true) h1 (qc_LNw LN f 0) (qc_CTw CT f (fun _ => 0)) u → (∀ s f', f' ≠ f → h1 s f' = h s f') → qc_pop (fun s => h1 s f) 5 = n → J n h1 → post (nI n) u) :
    wpX_create post (cp, lv, a1, a2, a3, a4, a5, a6, a7, a8, a9) (nI f) := by
  unfold wpX_create
  have none : ∀ s, s < 5 → h s f = false := fun s hs => by
    cases z : h s f
    · rfl
    · exact qc_ft he (M.2.1 s f hs hf z)
  have e31 : qc_set (fun s => !h s f) 5 = 31 := (qc_set_congr (g := fun _ => true) 5 (fun s hs => by rw [none s hs]; rfl)).trans qc_full
  refine qc_badFile hf (br_t rfl ⟨vp_in_nI hf (by decide), br_t (by rw [nI_clamp (by omega)]; exact qc_exF M.2.2.1 hf he) ?_⟩)
  refine qc_upSet M.2.2.1.1 (br_f (by decide) ⟨vp_in_nI hf (by decide), nm_r (e' := upd a2 f 1) (by rw [nI_clamp (show f < 2 ^ 31 by omega)]) (qc_newVersion hf ?_)⟩)
  have L := qc_cr50 (h := h) hn hf qc_ex_s qc_LNs qc_CTs J hJ hp n 0 (by omega) h cp (lv + 1) a1 (upd a2 f 1) (upd a3 f (lv + 1)) a4 a5 a6 a7 a8 a9 (qc_M_new M hf he 0 (fun _ => 0) (lv + 1) (lv + 1)) (fun _ _ _ => rfl) (qc_pop_0 5 none) j0
  rw [e31] at L
  exact ⟨n + 1, L⟩
end
end
section
/-! snapshots, removal, lost disks, healing, a new cluster -/
def qc_hg (h : Nat → Nat → Bool) (f g i : Nat) : Nat → Nat → Bool := fun s f' => if f' = g then (decide (s < i) && h s f) else h s f'
theorem qc_sn75 {post : Int32 → St2 → Prop} {n : Nat} {ex : Nat → Bool} {h : Nat → Nat → Bool} {LN : Nat → Nat} {CT : Nat → Nat → Int32} {f g : Nat} (hf : f < 4) (hg : g < 4) (hfg : f ≠ g) (eg : ex g = true) (hL : LN g = LN f) (hC : CT g = CT f)
    (hp : ∀ u, qc_M n ex (qc_hg h f g 5) LN CT u → post (nI (qc_pop (fun s => h s f) 5)) u) :
    ∀ k i, i + k = 5 → ∀ cp lv a1 a2 a3 a4 a5 a6 a7 a8 a9, qc_M n ex (qc_hg h f g i) LN CT (cp, lv, a1, a2, a3, a4, a5, a6, a7, a8, a9) →
      wX_snapshot_75 post (nI f) (nI g) (qc_set (fun s => h s f) 5) (k + 1) (nI i) cp lv a1 a2 a3 a4 a5 a6 a7 a8 a9 := by
  intro k
  induction k with
  | zero =>
    intro i hi cp lv a1 a2 a3 a4 a5 a6 a7 a8 a9 M
    have e : i = 5 := by omega
    rw [e] at M ⊢
    exact pk_le 5 5 (fun _ => qc_bits _ (hp _ M)) (fun z => absurd z (by omega))
  | succ k ih =>
    intro i hi cp lv a1 a2 a3 a4 a5 a6 a7 a8 a9 M
    have i5 : i < 5 := by omega
    refine pk_le 5 i (fun z => absurd z (by omega)) (fun _ => ?_)
    cases e : h i f
    · refine br_f (qc_bitn i5 e) (nm_r (nI_1 i) (ih (i + 1) (by omega) _ _ _ _ _ _ _ _ _ _ _ (qc_M_w M (fun s f' hs hf' => ?_) (fun _ _ _ _ _ => ⟨rfl, rfl⟩))))
      by_cases d : f' = g
      · show (if f' = g then (decide (s < i + 1) && h s f) else h s f') = (if f' = g then (decide (s < i) && h s f) else h s f')
        rw [if_pos d, if_pos d]
        by_cases z : s = i
        · rw [z, e]; simp
        · rw [show decide (s < i + 1) = decide (s < i) from decide_eq_decide.mpr (by omega)]
      · show (if f' = g then (decide (s < i + 1) && h s f) else h s f') = (if f' = g then (decide (s < i) && h s f) else h s f')
        rw [if_neg d, if_neg d]
    · obtain ⟨hc, hx, U, B, hB, st, C⟩ := M
      have hif : qc_hg h f g i i f = true := by
        show (if f = g then _ else h i f) = true
        rw [if_neg hfg]; exact e
      have b : B i f < 4 := (hB i f i5 hf).mp hif
      have hq : i * 4 + B i f < 20 := by omega
      have cl : (nI (i * 4 + B i f)).toNatClampNeg = i * 4 + B i f := nI_clamp (by omega)
      refine br_t (qc_bit1 i5 e) (qc_letGo st i5 hg (fun b4 b9 st1 => ?_))
      have uf : qc_up B i g 4 i f = B i f := qc_up_o (fun z => hfg z.2)
      have b4f : b4 (i * 4 + f) = nI (i * 4 + B i f) := by
        have t := qc_str_t st1 i5 hf (by rw [uf]; exact b)
        rw [uf] at t
        exact t
      refine And.intro (qc_ixv i5 hf) (nm_r (e' := nI (i * 4 + B i f)) (by rw [qc_ixc i5 hf]; exact b4f) ⟨vp_in_nI hq (by decide), vp_in_nI hq (by decide), nm_e ⟨qc_ixv i5 hg, nm_e ⟨vp_in_nI hg (by decide), qc_ixv i5 hg, nm_e (nm_r (nI_1 i) ?_)⟩⟩⟩)
      rw [qc_ixc i5 hg, cl, nI_clamp (show g < 2 ^ 31 by omega)]
      refine ih (i + 1) (by omega) _ _ _ _ _ _ _ _ _ _ _ ⟨hc, fun s' f' hs' hf' z => ?_, U, qc_up B i g (B i f), fun s' f' hs' hf' => ?_, ?_, fun s' f' hs' hf' hb' => ?_⟩
      · by_cases d : f' = g
        · rw [d]; exact eg
        · have z' : (if f' = g then (decide (s' < i + 1) && h s' f) else h s' f') = true := z
          rw [if_neg d] at z'
          refine hx s' f' hs' hf' ?_
          show (if f' = g then (decide (s' < i) && h s' f) else h s' f') = true
          rw [if_neg d]; exact z'
      · have hb0 := hB s' f' hs' hf'
        by_cases d : s' = i ∧ f' = g
        · rw [d.1, d.2, qc_up_sf]
          have : qc_hg h f g (i + 1) i g = true := by
            show (if g = g then (decide (i < i + 1) && h i f) else h i g) = true
            rw [if_pos rfl, e]; simp
          exact ⟨fun _ => b, fun _ => this⟩
        · rw [qc_up_o d]
          have : qc_hg h f g (i + 1) s' f' = qc_hg h f g i s' f' := by
            show (if f' = g then (decide (s' < i + 1) && h s' f) else h s' f') = (if f' = g then (decide (s' < i) && h s' f) else h s' f')
            by_cases q : f' = g
            · rw [if_pos q, if_pos q, show decide (s' < i + 1) = decide (s' < i) from decide_eq_decide.mpr (by omega)]
            · rw [if_neg q, if_neg q]
          rw [this]; exact hb0
      · have t := qc_str_up (a9' := upd b9 (i * 4 + B i f) (b9 (i * 4 + B i f) + 1)) (v := B i f) (x := nI (i * 4 + B i f)) st1 i5 hg (if_pos b).symm (fun b' hb' => ?_) (fun j hj => pk_un (by omega))
        · rw [qc_up_up] at t
          exact t
        · have c := qc_cnt_set (qc_up B i g 4 i) hg (B i f) b'
          rw [qc_up_sf, qc_e0 (show 4 ≠ b' by omega)] at c
          by_cases d : b' = B i f
          · rw [d] at c ⊢
            rw [qc_e1 rfl] at c
            rw [pk_us, st1.2 i (B i f) i5 b, nI_1, show qc_cnt (qc_set1 (qc_up B i g 4 i) g (B i f)) (B i f) = qc_cnt (qc_up B i g 4 i) (B i f) + 1 by omega]
          · rw [qc_e0 (fun z => d z.symm)] at c
            rw [pk_un (by omega), st1.2 i b' i5 hb', show qc_cnt (qc_set1 (qc_up B i g 4 i) g (B i f)) b' = qc_cnt (qc_up B i g 4 i) b' by omega]
      · show qc_rep a3 _ a6 a7 a8 s' f' _ (LN f') (CT f')
        by_cases d : s' = i ∧ f' = g
        · rw [d.1, d.2, qc_up_sf, hL, hC]
          exact ⟨pk_us, (C i f i5 hf b).2⟩
        · rw [qc_up_o d] at hb' ⊢
          have t := C s' f' hs' hf' hb'
          exact ⟨(pk_un (by omega)).trans t.1, t.2⟩
section
variable {cp lv : Int32} {a1 a2 a3 a4 a5 a6 a7 a8 a9 : Nat → Int32} {n : Nat} {ex : Nat → Bool} {h : Nat → Nat → Bool} {LN : Nat → Nat} {CT : Nat → Nat → Int32} {s f g : Nat}
theorem qc_snapshot {post : Int32 → St2 → Prop} (M : qc_M n ex h LN CT (cp, lv, a1, a2, a3, a4, a5, a6, a7, a8, a9)) (hf : f < 4) (hg : g < 4) (hfg : f ≠ g) (ef : ex f = true) (eg : ex g = false) (hs : s < 5) (hh : h s f = true)
    (hp : ∀ u, qc_M n (qc_ex ex g true) (fun s f' => if f' = g then h s f else h s f') (qc_LNw LN g (LN f)) (qc_CTw CT g (CT f)) u → post (nI (qc_pop (fun s => h s f) 5)) u) :
    wpX_snapshot post (cp, lv, a1, a2, a3, a4, a5, a6, a7, a8, a9) (nI f) (nI g) := by
  unfold wpX_snapshot
  refine qc_badFile hf (br_t rfl (qc_badFile hg (br_t rfl ⟨vp_in_nI hf (by decide), br_f (by rw [nI_clamp (by omega)]; exact qc_exT M.2.2.1 hf ef) ⟨vp_in_nI hg (by decide), br_t (by rw [nI_clamp (by omega)]; exact qc_exF M.2.2.1 hg eg) ?_⟩⟩)))
  refine qc_source M hf (fun z => qc_ft (z s hs) hh) (fun s1 hs1 _ => br_t (nI_pos' (by omega)) ?_)
  refine qc_currentSet M hf ⟨vp_in_nI hg (by decide), nm_r (e' := upd a2 g 1) (by rw [nI_clamp (show g < 2 ^ 31 by omega)]) (qc_newVersion hg ?_)⟩
  have none : ∀ s, s < 5 → h s g = false := fun s hs => by
    cases z : h s g
    · rfl
    · exact qc_ft eg (M.2.1 s g hs hg z)
  refine ⟨6, qc_sn75 (h := h) hf hg hfg qc_ex_s (by rw [qc_LNs, qc_LNn hfg]) (by rw [qc_CTs, qc_CTn hfg]) (fun u hu => hp u (qc_M_w hu (fun s' f' hs' hf' => ?_) (fun _ _ _ _ _ => ⟨rfl, rfl⟩))) 5 0 rfl _ _ _ _ _ _ _ _ _ _ _ (qc_M_w (qc_M_new M hg eg (LN f) (CT f) (lv + 1) (lv + 1)) (fun s' f' hs' hf' => ?_) (fun _ _ _ _ _ => ⟨rfl, rfl⟩))⟩
  · show (if f' = g then h s' f else h s' f') = (if f' = g then (decide (s' < 5) && h s' f) else h s' f')
    rw [show decide (s' < 5) = true from decide_eq_true hs', Bool.true_and]
  · show (if f' = g then (decide (s' < 0) && h s' f) else h s' f') = h s' f'
    by_cases d : f' = g
    · rw [if_pos d, d, none s' hs']; simp
    · rw [if_neg d]
theorem qc_snapshot2 {post : Int32 → St2 → Prop} (M : qc_M n ex h LN CT (cp, lv, a1, a2, a3, a4, a5, a6, a7, a8, a9)) (hf : f < 4) (hg : g < 4) (ef : ex f = true) (eg : ex g = true)
    (hp : post (-2) (cp, lv, a1, a2, a3, a4, a5, a6, a7, a8, a9)) :
    wpX_snapshot post (cp, lv, a1, a2, a3, a4, a5, a6, a7, a8, a9) (nI f) (nI g) := by
  unfold wpX_snapshot
  exact qc_badFile hf (br_t rfl (qc_badFile hg (br_t rfl ⟨vp_in_nI hf (by decide), br_f (by rw [nI_clamp (by omega)]; exact qc_exT M.2.2.1 hf ef) ⟨vp_in_nI hg (by decide), br_f (by rw [nI_clamp (by omega)]; exact qc_exT M.2.2.1 hg eg) hp⟩⟩)))
end
theorem qc_rm30 {post : Int32 → St2 → Prop} {h : Nat → Nat → Bool} {ln : Nat → Nat → Nat} {ct : Nat → Nat → Nat → Int32} {cp lv : Int32} {a1 a2 a3 a5 a6 a7 a8 : Nat → Int32} {f : Nat} (hf : f < 4) (h1 : ∀ s, s < 5 → a1 s = 1)
    (hp : ∀ (B : Nat → Nat → Nat) b4 b9, (∀ s f', s < 5 → f' < 4 → ((h s f' = true ∧ ¬ (f' = f ∧ s < 5)) ↔ B s f' < 4)) → qc_str b4 b9 B → qc_C a3 a5 a6 a7 a8 B ln ct → post 0 (cp, lv, a1, a2, a3, b4, a5, a6, a7, a8, b9)) :
    ∀ k i, i + k = 5 → ∀ (B : Nat → Nat → Nat) a4 a9, (∀ s f', s < 5 → f' < 4 → ((h s f' = true ∧ ¬ (f' = f ∧ s < i)) ↔ B s f' < 4)) → qc_str a4 a9 B → qc_C a3 a5 a6 a7 a8 B ln ct →
      wX_remove_30 post (nI f) (k + 1) (nI i) cp lv a1 a2 a3 a4 a5 a6 a7 a8 a9 := by
  intro k
  induction k with
  | zero =>
    intro i hi B a4 a9 hB st C
    have e : i = 5 := by omega
    rw [e] at hB ⊢
    exact pk_le 5 5 (fun _ => hp B a4 a9 hB st C) (fun z => absurd z (by omega))
  | succ k ih =>
    intro i hi B a4 a9 hB st C
    have i5 : i < 5 := by omega
    refine pk_le 5 i (fun z => absurd z (by omega)) (fun _ => ⟨pk_in i 5 i5, br_f (by rw [nI_clamp (by omega), h1 i i5]; decide) ?_⟩)
    refine qc_letGo st i5 hf (fun b4 b9 st1 => nm_r (nI_1 i) (ih (i + 1) (by omega) (qc_up B i f 4) b4 b9 (fun s' f' hs' hf' => ?_) st1 (qc_C_drop C)))
    by_cases d : s' = i ∧ f' = f
    · rw [d.1, d.2, qc_up_sf]
      exact ⟨fun z => absurd ⟨rfl, by omega⟩ z.2, fun z => absurd z (by omega)⟩
    · rw [qc_up_o d]
      have q : (f' = f ∧ s' < i + 1) ↔ (f' = f ∧ s' < i) := by omega
      rw [q]
      exact hB s' f' hs' hf'
theorem qc_ld17 {post : Int32 → St2 → Prop} {h : Nat → Nat → Bool} {ln : Nat → Nat → Nat} {ct : Nat → Nat → Nat → Int32} {cp lv x : Int32} {a1 a2 a3 a5 a6 a7 a8 : Nat → Int32} {s : Nat} (hs : s < 5)
    (hp : ∀ (B : Nat → Nat → Nat) b4 b9, (∀ s' f', s' < 5 → f' < 4 → ((h s' f' = true ∧ ¬ (s' = s ∧ f' < 4)) ↔ B s' f' < 4)) → qc_str b4 b9 B → qc_C a3 a5 a6 a7 a8 B ln ct → post x (cp, lv, a1, a2, a3, b4, a5, a6, a7, a8, b9)) :
    ∀ k i, i + k = 4 → ∀ (B : Nat → Nat → Nat) a4 a9, (∀ s' f', s' < 5 → f' < 4 → ((h s' f' = true ∧ ¬ (s' = s ∧ f' < i)) ↔ B s' f' < 4)) → qc_str a4 a9 B → qc_C a3 a5 a6 a7 a8 B ln ct →
      wX_loseDisk_17 post (nI s) x (k + 1) (nI i) cp lv a1 a2 a3 a4 a5 a6 a7 a8 a9 := by
  intro k
  induction k with
  | zero =>
    intro i hi B a4 a9 hB st C
    have e : i = 4 := by omega
    rw [e] at hB ⊢
    exact pk_le 4 4 (fun _ => hp B a4 a9 hB st C) (fun z => absurd z (by omega))
  | succ k ih =>
    intro i hi B a4 a9 hB st C
    have i4 : i < 4 := by omega
    refine pk_le 4 i (fun z => absurd z (by omega)) (fun _ => ?_)
    refine qc_letGo st hs i4 (fun b4 b9 st1 => nm_r (nI_1 i) (ih (i + 1) (by omega) (qc_up B s i 4) b4 b9 (fun s' f' hs' hf' => ?_) st1 (qc_C_drop C)))
    by_cases d : s' = s ∧ f' = i
    · rw [d.1, d.2, qc_up_sf]
      exact ⟨fun z => absurd ⟨rfl, by omega⟩ z.2, fun z => absurd z (by omega)⟩
    · rw [qc_up_o d]
      have q : (s' = s ∧ f' < i + 1) ↔ (s' = s ∧ f' < i) := by omega
      rw [q]
      exact hB s' f' hs' hf'
section
variable {cp lv : Int32} {a1 a2 a3 a4 a5 a6 a7 a8 a9 : Nat → Int32} {n : Nat} {ex : Nat → Bool} {h : Nat → Nat → Bool} {LN : Nat → Nat} {CT : Nat → Nat → Int32} {s f g : Nat}
theorem qc_remove {post : Int32 → St2 → Prop} (M : qc_M n ex h LN CT (cp, lv, a1, a2, a3, a4, a5, a6, a7, a8, a9)) (hf : f < 4) (ef : ex f = true)
    (hp : ∀ u, qc_M n (qc_ex ex f false) (fun s f' => if f' = f then false else h s f') LN CT u → post 0 u) :
    wpX_remove post (cp, lv, a1, a2, a3, a4, a5, a6, a7, a8, a9) (nI f) := by
  unfold wpX_remove
  refine qc_badFile hf (br_t rfl ⟨vp_in_nI hf (by decide), br_f (by rw [nI_clamp (by omega)]; exact qc_exT M.2.2.1 hf ef) ⟨vp_in_nI hf (by decide), nm_r (e' := upd a2 f 0) (by rw [nI_clamp (show f < 2 ^ 31 by omega)]) ?_⟩⟩)
  obtain ⟨hc, hx, U, B, hB, st, C⟩ := M
  refine ⟨6, qc_rm30 (h := h) hf U.1 (fun B' b4 b9 hB' st' C' => hp _ ⟨hc, fun s' f' hs' hf' z => ?_, ⟨U.1, fun f' hf' => ?_⟩, B', fun s' f' hs' hf' => ?_, st', C'⟩) 5 0 rfl B a4 a9 (fun s' f' hs' hf' => ?_) st C⟩
  · have z' : (if f' = f then false else h s' f') = true := z
    by_cases d : f' = f
    · rw [if_pos d] at z'; exact absurd z' (by decide)
    · rw [if_neg d] at z'
      rw [qc_ex_n d]
      exact hx s' f' hs' hf' z'
  · by_cases d : f' = f
    · rw [d, pk_us, qc_ex_s]; rfl
    · rw [pk_un d, qc_ex_n d]; exact U.2 f' hf'
  · have t := hB' s' f' hs' hf'
    show (if f' = f then false else h s' f') = true ↔ B' s' f' < 4
    by_cases d : f' = f
    · rw [if_pos d, ← t]
      exact ⟨fun z => absurd z (by decide), fun z => absurd ⟨d, hs'⟩ z.2⟩
    · rw [if_neg d, ← t]
      exact ⟨fun z => ⟨z, fun y => d y.1⟩, fun z => z.1⟩
  · rw [← hB s' f' hs' hf']
    exact ⟨fun z => z.1, fun z => ⟨z, fun y => absurd y.2 (by omega)⟩⟩
theorem qc_loseDisk {post : Int32 → St2 → Prop} (M : qc_M n ex h LN CT (cp, lv, a1, a2, a3, a4, a5, a6, a7, a8, a9)) (hs : s < 5)
    (hp : ∀ u, qc_M n ex (fun s' f' => if s' = s then false else h s' f') LN CT u → post (nI (qc_pop (h s) 4)) u) :
    wpX_loseDisk post (cp, lv, a1, a2, a3, a4, a5, a6, a7, a8, a9) (nI s) := by
  unfold wpX_loseDisk
  refine qc_badServer hs (br_t rfl (qc_loadOf M hs ?_))
  obtain ⟨hc, hx, U, B, hB, st, C⟩ := M
  refine ⟨5, qc_ld17 (h := h) hs (fun B' b4 b9 hB' st' C' => hp _ ⟨hc, fun s' f' hs' hf' z => ?_, U, B', fun s' f' hs' hf' => ?_, st', C'⟩) 4 0 rfl B a4 a9 (fun s' f' hs' hf' => ?_) st C⟩
  · have z' : (if s' = s then false else h s' f') = true := z
    by_cases d : s' = s
    · rw [if_pos d] at z'; exact absurd z' (by decide)
    · rw [if_neg d] at z'
      exact hx s' f' hs' hf' z'
  · have t := hB' s' f' hs' hf'
    show (if s' = s then false else h s' f') = true ↔ B' s' f' < 4
    by_cases d : s' = s
    · rw [if_pos d, ← t]
      exact ⟨fun z => absurd z (by decide), fun z => absurd ⟨d, hf'⟩ z.2⟩
    · rw [if_neg d, ← t]
      exact ⟨fun z => ⟨z, fun y => d y.1⟩, fun z => z.1⟩
  · rw [← hB s' f' hs' hf']
    exact ⟨fun z => z.1, fun z => ⟨z, fun y => absurd y.2 (by omega)⟩⟩
end
end
section
/-! healing, and a new cluster -/
theorem qc_hf17 {post : Int32 → St2 → Prop} {n : Nat} {ex : Nat → Bool} {h : Nat → Nat → Bool} {LN : Nat → Nat} {CT : Nat → Nat → Int32} {f s0 p0 : Nat} (hn : n ≤ 3) (hf : f < 4) (he : ex f = true) (hs0 : s0 < 5)
    (hp : ∀ h1 u, qc_M n ex h1 LN CT u → (∀ s f', f' ≠ f → h1 s f' = h s f') → h1 s0 f = true → post (nI (n - p0)) u) :
    ∀ k i m, i + k = n → ∀ h1 cp lv a1 a2 a3 a4 a5 a6 a7 a8 a9, qc_M n ex h1 LN CT (cp, lv, a1, a2, a3, a4, a5, a6, a7, a8, a9) → (∀ s f', f' ≠ f → h1 s f' = h s f') → h1 s0 f = true →
      qc_pop (fun s => h1 s f) 5 = p0 + m → p0 + m ≤ n → m ≤ i → (p0 + m = n ∨ m = i) →
      wX_healFile_17 post (nI f) (nI s0) (k + 1) (nI m) (nI i) cp lv a1 a2 a3 a4 a5 a6 a7 a8 a9 := by
  intro k
  induction k with
  | zero =>
    intro i m hi h1 cp lv a1 a2 a3 a4 a5 a6 a7 a8 a9 M fr e0 pp q1 q2 q3
    have e : i = n := by omega
    have em : m = n - p0 := by omega
    rw [e, em]
    exact pk_le n n (fun _ => hp h1 _ M fr e0) (fun z => absurd z (by omega)) M.1
  | succ k ih =>
    intro i m hi h1 cp lv a1 a2 a3 a4 a5 a6 a7 a8 a9 M fr e0 pp q1 q2 q3
    refine pk_le n i (fun z => absurd z (by omega)) (fun _ => ?_) M.1
    refine qc_upSet M.2.2.1.1 ?_
    refine qc_currentSet M hf ?_
    rw [qc_31c, qc_31b]
    refine qc_firstOf M (fun s => !h1 s f) (fun z => ?_) (fun r hr gr _ => qc_bits _ ?_)
    · obtain ⟨s1, hs1, e1⟩ := qc_pop_ex (h := fun s => h1 s f) 5 (by omega)
      have y : (!h1 s1 f) = false := z s1 hs1
      rw [show h1 s1 f = false from e1] at y
      exact absurd y (by decide)
    · rw [pp]
      refine pk_le n (p0 + m) (fun z => ?_) (fun z => br_f (nI_pos (by omega)) ?_) M.1
      · exact nm_r (nI_1 i) (ih (i + 1) m (by omega) h1 _ _ _ _ _ _ _ _ _ _ _ M fr e0 pp q1 (by omega) (by omega))
      · have gr' : h1 r f = false := by
          cases z : h1 r f
          · rfl
          · rw [z] at gr; exact absurd gr (by decide)
        have hne : s0 ≠ r := fun z => by rw [z] at e0; exact qc_ft gr' e0
        have M0 := M
        obtain ⟨hc, hx, U, B, hB, st, C⟩ := M0
        have hb0 : B s0 f < 4 := (hB s0 f hs0 hf).mp e0
        obtain ⟨r1, r2, r3, r4⟩ := C s0 f hs0 hf hb0
        refine qc_newReplica st hr hf (fun b b4 b9 hb st' xc => ?_)
        have uf : qc_up B r f b s0 f = B s0 f := qc_up_o (fun z => hne z.1)
        have b4f : b4 (s0 * 4 + f) = nI (s0 * 4 + B s0 f) := by
          have t := qc_str_t st' hs0 hf (by rw [uf]; exact hb0)
          rw [uf] at t
          exact t
        refine And.intro (qc_ixv hs0 hf) ?_
        rw [qc_ixc hs0 hf, b4f]
        refine qc_copyBlock (by omega) (by omega) (by omega) (fun b6 c1 c2 => nm_r (nI_1 m) (nm_r (nI_1 i) ?_))
        have M2 := qc_M_add (lv := lv) (b6 := b6) (b7 := upd a7 (r * 4 + b) (a7 (s0 * 4 + B s0 f))) (b8 := upd a8 (r * 4 + b) (a8 (s0 * 4 + B s0 f))) hc hx U hB C hr hf he hb st' xc (pk_us.trans r2) (fun j hj => pk_un hj) (fun j hj => (c1 j hj).trans (r3 j hj)) c2 (pk_us.trans r4) (fun j hj => pk_un hj)
        refine ih (i + 1) (m + 1) (by omega) _ _ _ _ _ _ _ _ _ _ _ _ M2 (fun s f' hne' => ?_) ?_ ?_ (by omega) (by omega) (by omega)
        · rw [qc_hs_n (fun z => hne' z.2)]; exact fr s f' hne'
        · rw [qc_hs_n (fun z => hne z.1)]; exact e0
        · have := qc_pop_add (h := fun s => h1 s f) (g := fun s => qc_hs h1 r f true s f) (r := r) gr' qc_hs_s (fun s d => qc_hs_n (fun z => d z.1)) 5
          rw [if_pos hr, pp] at this
          omega
section
variable {cp lv : Int32} {a1 a2 a3 a4 a5 a6 a7 a8 a9 : Nat → Int32} {n : Nat} {ex : Nat → Bool} {h : Nat → Nat → Bool} {LN : Nat → Nat} {CT : Nat → Nat → Int32} {s f g : Nat}
theorem qc_healFile {post : Int32 → St2 → Prop} (M : qc_M n ex h LN CT (cp, lv, a1, a2, a3, a4, a5, a6, a7, a8, a9)) (hn : n ≤ 3) (hf : f < 4) (he : ex f = true) (hpo : qc_pop (fun s => h s f) 5 ≤ n)
    (h0 : (∀ s, s < 5 → h s f = false) → post 0 (cp, lv, a1, a2, a3, a4, a5, a6, a7, a8, a9))
    (hp : ∀ s0, s0 < 5 → h s0 f = true → ∀ h1 u, qc_M n ex h1 LN CT u → (∀ s f', f' ≠ f → h1 s f' = h s f') → h1 s0 f = true → post (nI (n - qc_pop (fun s => h s f) 5)) u) :
    wpX_healFile post (cp, lv, a1, a2, a3, a4, a5, a6, a7, a8, a9) (nI f) := by
  unfold wpX_healFile
  refine qc_source M hf (fun z => br_f (by decide) (h0 z)) (fun s0 hs0 e0 => br_t (nI_pos' (by omega)) ⟨n + 1, ?_⟩)
  exact qc_hf17 (h := h) (p0 := qc_pop (fun s => h s f) 5) hn hf he hs0 (hp s0 hs0 e0) n 0 0 (by omega) h _ _ _ _ _ _ _ _ _ _ _ M (fun _ _ _ => rfl) e0 rfl (by omega) (by omega) (by omega)
theorem qc_heal_no {post : Int32 → St2 → Prop} {k : Nat} {x : Int32} (M : qc_M n ex h LN CT (cp, lv, a1, a2, a3, a4, a5, a6, a7, a8, a9)) (hf : f < 4) (he : ex f = false)
    (hp : wX_heal_4 post k x (nI (f + 1)) cp lv a1 a2 a3 a4 a5 a6 a7 a8 a9) : wX_heal_4 post (k + 1) x (nI f) cp lv a1 a2 a3 a4 a5 a6 a7 a8 a9 :=
  pk_le 4 f (fun z => absurd z (by omega)) (fun _ => ⟨pk_in f 4 hf, br_t (by rw [nI_clamp (by omega)]; exact qc_exF M.2.2.1 hf he) (nm_r (nI_1 f) hp)⟩)
theorem qc_heal_do {post : Int32 → St2 → Prop} {k x : Nat} (M : qc_M n ex h LN CT (cp, lv, a1, a2, a3, a4, a5, a6, a7, a8, a9)) (hn : n ≤ 3) (hf : f < 4) (he : ex f = true) (hpo : qc_pop (fun s => h s f) 5 ≤ n)
    (h0 : (∀ s, s < 5 → h s f = false) → wX_heal_4 post k (nI x) (nI (f + 1)) cp lv a1 a2 a3 a4 a5 a6 a7 a8 a9)
    (hp : ∀ s0, s0 < 5 → h s0 f = true → ∀ h1 cp lv a1 a2 a3 a4 a5 a6 a7 a8 a9, qc_M n ex h1 LN CT (cp, lv, a1, a2, a3, a4, a5, a6, a7, a8, a9) → (∀ s f', f' ≠ f → h1 s f' = h s f') → h1 s0 f = true → wX_heal_4 post k (nI (x + (n - qc_pop (fun s => h s f) 5))) (nI (f + 1)) cp lv a1 a2 a3 a4 a5 a6 a7 a8 a9) :
    wX_heal_4 post (k + 1) (nI x) (nI f) cp lv a1 a2 a3 a4 a5 a6 a7 a8 a9 := by
  refine pk_le 4 f (fun z => absurd z (by omega)) (fun _ => ⟨pk_in f 4 hf, br_f (by rw [nI_clamp (by omega)]; exact qc_exT M.2.2.1 hf he) ?_⟩)
  refine qc_healFile M hn hf he hpo (fun z => nm_r (e' := nI x) (nI_add x 0) (nm_r (nI_1 f) (h0 z))) (fun s0 hs0 e0 h1 u hu fr e1 => ?_)
  obtain ⟨cp', lv', b1, b2, b3, b4, b5, b6, b7, b8, b9⟩ := u
  exact nm_r (nI_add _ _) (nm_r (nI_1 f) (hp s0 hs0 e0 h1 _ _ _ _ _ _ _ _ _ _ _ hu fr e1))
theorem qc_heal {post : Int32 → St2 → Prop} (M : qc_M n ex h LN CT (cp, lv, a1, a2, a3, a4, a5, a6, a7, a8, a9)) (hn : n ≤ 3) (e0 : ex 0 = true) (e1 : ex 1 = false) (e2 : ex 2 = false) (e3 : ex 3 = true) (hh : ∀ s, s < 5 → h s 3 = h s 0)
    (hpo : qc_pop (fun s => h s 0) 5 ≤ n)
    (h0 : (∀ s, s < 5 → h s 0 = false) → post 0 (cp, lv, a1, a2, a3, a4, a5, a6, a7, a8, a9))
    (hp : ∀ s0, s0 < 5 → h s0 0 = true → ∀ h1 u, qc_M n ex h1 LN CT u → h1 s0 0 = true → post (nI (2 * (n - qc_pop (fun s => h s 0) 5))) u) :
    wpX_heal post (cp, lv, a1, a2, a3, a4, a5, a6, a7, a8, a9) := by
  have pe : qc_pop (fun s => h s 3) 5 = qc_pop (fun s => h s 0) 5 := qc_pop_congr 5 (fun s hs => hh s hs)
  refine Exists.intro 5 (qc_heal_do (x := 0) (f := 0) M hn (by omega) e0 hpo (fun z => ?_) (fun s0 hs0 es0 h1 cp' lv' b1 b2 b3 b4 b5 b6 b7 b8 b9 M1 fr1 es1 => ?_))
  · refine qc_heal_no M (f := 1) (by omega) e1 (qc_heal_no M (f := 2) (by omega) e2 (qc_heal_do M (f := 3) hn (by omega) e3 (by omega) (fun _ => ?_) (fun s0 hs0 es0 => ?_)))
    · exact pk_le 4 4 (fun _ => h0 z) (fun y => absurd y (by omega))
    · exact qc_ft (z s0 hs0) (by rw [← hh s0 hs0]; exact es0)
  · have pe1 : qc_pop (fun s => h1 s 3) 5 = qc_pop (fun s => h s 0) 5 := (qc_pop_congr 5 (fun s hs => fr1 s 3 (by omega))).trans pe
    refine qc_heal_no M1 (f := 1) (by omega) e1 (qc_heal_no M1 (f := 2) (by omega) e2 (qc_heal_do M1 (f := 3) hn (by omega) e3 (by omega) (fun z => ?_) (fun s1 hs1 es1' h2 cp2 lv2 c1 c2 c3 c4 c5 c6 c7 c8 c9 M2 fr2 es2 => ?_)))
    · exact qc_ft (z s0 hs0) (by rw [fr1 s0 3 (by omega), hh s0 hs0]; exact es0)
    · refine pk_le 4 4 (fun _ => ?_) (fun y => absurd y (by omega))
      rw [pe1, show 0 + (n - qc_pop (fun s => h s 0) 5) + (n - qc_pop (fun s => h s 0) 5) = 2 * (n - qc_pop (fun s => h s 0) 5) by omega]
      exact hp s0 hs0 es0 h2 _ M2 (by rw [fr2 s0 0 (by omega)]; exact es1)
end
theorem qc_in116 {post : St2 → Prop} {mc ms kc ks n : Nat} {lv : Int32} {a1 : Nat → Int32} {LN : Nat → Nat} {CT : Nat → Nat → Int32} (h1 : ∀ s, s < 5 → a1 s = 1)
    (hp : ∀ u, qc_M n (fun _ => false) (fun _ _ => false) LN CT u → post u) :
    ∃ fu, wX_init_116 post mc ms kc ks (nI n) lv fu 0 a1 (fun _ => 0) (fun _ => 0) (fun _ => 0) (fun _ => 0) (fun _ => 0) (fun _ => 0) (fun _ => 0) (fun _ => 0) := by
  refine pk_loop (fun k i t => wX_init_116 post mc ms kc ks (nI n) lv k (nI i) a1 (fun _ => 0) (fun _ => 0) t (fun _ => 0) (fun _ => 0) (fun _ => 0) (fun _ => 0) (fun _ => 0)) (fun i t => ∀ j, j < i → t j = -1) 20 0 (fun _ => 0) (by omega) (fun j hj => absurd hj (by omega)) ?_ ?_
  · intro k t e
    refine pk_le 20 20 (fun _ => hp _ ⟨rfl, fun _ _ _ _ z => absurd z Bool.false_ne_true, ⟨h1, fun f hf => rfl⟩, fun _ _ => 4, fun s f _ _ => ⟨fun z => absurd z Bool.false_ne_true, fun z => absurd z (Nat.lt_irrefl 4)⟩, ⟨fun s f hs hf => ?_, fun s b hs hb => ?_⟩, fun s f _ _ z => absurd z (Nat.lt_irrefl 4)⟩) (fun z => absurd z (by omega))
    · exact e _ (by omega)
    · have : qc_cnt (fun _ => 4) b = 0 := by
        unfold qc_cnt
        rw [qc_e0 (show (4 : Nat) ≠ b by omega)]
      show (0 : Int32) = nI (qc_cnt (fun _ => 4) b)
      rw [this]
      rfl
  · intro k i t hi e hw
    refine pk_le 20 i (fun z => absurd z (by omega)) (fun _ => ⟨pk_in i 20 hi, nm_r (e' := upd t i (-1)) (by rw [nI_clamp (show i < 2 ^ 31 by omega)]) (nm_r (nI_1 i) (hw _ (fun j hj => ?_)))⟩)
    by_cases d : j = i
    · rw [d, pk_us]
    · rw [pk_un d]; exact e j (by omega)
theorem qc_in96 {post : St2 → Prop} {mc ms kc ks n : Nat} {lv : Int32} {LN : Nat → Nat} {CT : Nat → Nat → Int32} (hp : ∀ u, qc_M n (fun _ => false) (fun _ _ => false) LN CT u → post u) :
    ∃ fu, wX_init_96 post mc ms kc ks (nI n) lv fu 0 (fun _ => 0) (fun _ => 0) (fun _ => 0) (fun _ => 0) (fun _ => 0) (fun _ => 0) (fun _ => 0) (fun _ => 0) (fun _ => 0) := by
  refine pk_loop (fun k i t => wX_init_96 post mc ms kc ks (nI n) lv k (nI i) t (fun _ => 0) (fun _ => 0) (fun _ => 0) (fun _ => 0) (fun _ => 0) (fun _ => 0) (fun _ => 0) (fun _ => 0)) (fun i t => ∀ j, j < i → t j = 1) 5 0 (fun _ => 0) (by omega) (fun j hj => absurd hj (by omega)) ?_ ?_
  · intro k t e
    exact pk_le 5 5 (fun _ => qc_in116 e hp) (fun z => absurd z (by omega))
  · intro k i t hi e hw
    refine pk_le 5 i (fun z => absurd z (by omega)) (fun _ => ⟨pk_in i 5 hi, nm_r (e' := upd t i 1) (by rw [nI_clamp (show i < 2 ^ 31 by omega)]) (nm_r (nI_1 i) (hw _ (fun j hj => ?_)))⟩)
    by_cases d : j = i
    · rw [d, pk_us]
    · rw [pk_un d]; exact e j (by omega)
/-- the number of copies that a cluster takes -/
theorem qc_init {post : St2 → Prop} {p : Int32} {LN : Nat → Nat} {CT : Nat → Nat → Int32} (hp : ∀ n u, 1 ≤ n → n ≤ 3 → ((¬ 1 ≤ p ∧ n = 1) ∨ (1 ≤ p ∧ p ≤ 3 ∧ p = nI n) ∨ (1 ≤ p ∧ ¬ p ≤ 3 ∧ n = 3)) → qc_M n (fun _ => false) (fun _ _ => false) LN CT u → post u) :
    wpX_init post 9 233 (0, 0) p := by
  refine And.intro (by omega) ⟨by omega, by omega, by omega, by omega, by omega, by omega, by omega, by omega, by omega, by omega, by omega, by omega, by omega, by omega, by omega, by omega, by omega, ?_⟩
  refine br_c (fun h1 => ?_) (fun h1 => ?_)
  · refine And.intro (fun h3 => ?_) (fun h3 => ?_)
    · have hneg : ¬ p < 0 := fun z => absurd h1 (by
        intro y
        have a1 : (1 : Int32).toInt ≤ p.toInt := Int32.le_iff_toInt_le.mp y
        have a2 : p.toInt < (0 : Int32).toInt := Int32.lt_iff_toInt_lt.mp z
        have a3 : (1 : Int32).toInt = 1 := by decide
        have a4 : (0 : Int32).toInt = 0 := by decide
        omega)
      obtain ⟨n, hn, e⟩ := nI_of2 (M := 3) (n := 3) (by decide) hneg h3
      rw [e] at h1 h3
      have n1 : 1 ≤ n := (nI_leI (by omega) (by omega)).mp h1
      rw [e]
      exact qc_in96 (fun u hu => hp n u n1 hn (Or.inr (Or.inl ⟨by rw [e]; exact h1, by rw [e]; exact h3, e⟩)) hu)
    · exact qc_in96 (n := 3) (fun u hu => hp 3 u (by omega) (by omega) (Or.inr (Or.inr ⟨h1, h3, rfl⟩)) hu)
  · refine And.intro (fun _ => ?_) (fun h3 => absurd h3 (by decide))
    exact qc_in96 (n := 1) (fun u hu => hp 1 u (by omega) (by omega) (Or.inl ⟨h1, rfl⟩) hu)
end
section
/-! the law, from its end to its start -/
theorem qc_popD : ∀ n, n < 4 → qc_pop (fun s => decide (s < n)) 5 = n := by decide
/-- is there a replica of file 0? the law's 'there' -/
def qc_T (h : Nat → Nat → Bool) (x14 : Int32) : Prop := (x14 = 0 ∧ ∀ s, s < 5 → h s 0 = false) ∨ (¬ x14 = 0 ∧ ∃ s, s < 5 ∧ h s 0 = true)
theorem qc_T0 {h : Nat → Nat → Bool} {x14 : Int32} (T : qc_T h x14) (z : ∀ s, s < 5 → h s 0 = false) : x14 = 0 := by
  rcases T with ⟨e, _⟩ | ⟨_, s, hs, e⟩
  · exact e
  · exact qc_ft (z s hs) e
theorem qc_T1 {h : Nat → Nat → Bool} {x14 : Int32} (T : qc_T h x14) {s : Nat} (hs : s < 5) (z : h s 0 = true) : ¬ x14 = 0 := by
  rcases T with ⟨_, e⟩ | ⟨e, _⟩
  · exact qc_ft (e s hs) z
  · exact e
def qc_miss (g : Nat → Bool) (n : Nat) : Nat → Nat
  | 0 => 0
  | k + 1 => qc_miss g n k + (if k < n ∧ g k = false then 1 else 0)
theorem qc_miss_t {g : Nat → Bool} {n k : Nat} (e : k < n ∧ g k = false) : qc_miss g n (k + 1) = qc_miss g n k + 1 := by
  show qc_miss g n k + (if k < n ∧ g k = false then 1 else 0) = _
  rw [if_pos e]
theorem qc_miss_f {g : Nat → Bool} {n k : Nat} (e : ¬ (k < n ∧ g k = false)) : qc_miss g n (k + 1) = qc_miss g n k := by
  show qc_miss g n k + (if k < n ∧ g k = false then 1 else 0) = _
  rw [if_neg e]; rfl
theorem qc_missP {g : Nat → Bool} {n : Nat} : ∀ k, (∀ s, s < k → g s = true → s < n) → qc_pop g k + qc_miss g n k = min n k
  | 0, _ => by rw [Nat.min_zero]; rfl
  | k + 1, e => by
    have a := qc_missP (g := g) (n := n) k (fun s hs => e s (by omega))
    cases d : g k
    · by_cases z : k < n
      · rw [qc_pop_f d, qc_miss_t ⟨z, d⟩]; omega
      · rw [qc_pop_f d, qc_miss_f (fun y => z y.1)]; omega
    · have z := e k (by omega) d
      rw [qc_pop_t d, qc_miss_f (fun y => qc_ft y.2 d)]; omega
theorem qc_miss3 {g : Nat → Bool} {n : Nat} (hn : n ≤ 3) (e : ∀ s, s < 5 → g s = true → s < n) : qc_pop g 5 + qc_miss g n 3 = n := by
  have a := qc_missP (g := g) (n := n) 3 (fun s hs => e s (by omega))
  have f3 : g 3 = false := qc_bf (fun z => by have := e 3 (by omega) z; omega)
  have f4 : g 4 = false := qc_bf (fun z => by have := e 4 (by omega) z; omega)
  have p : qc_pop g 5 = qc_pop g 3 := (qc_pop_f f4).trans (qc_pop_f f3)
  rw [p, a]; omega
section
variable {post : Int32 → St0 → Prop} {mc ms kc ks : Nat} {cp lv : Int32} {a1 a2 a3 a4 a5 a6 a7 a8 a9 : Nat → Int32} {n : Nat} {ex : Nat → Bool} {h : Nat → Nat → Bool} {LN : Nat → Nat} {CT : Nat → Nat → Int32} {x2 x3 x5 x10 x11 x12 x14 z0 z1 : Int32} {c : Nat}
theorem qc_L552 (hp : post 1 ()) (M : qc_M n ex h LN CT (cp, lv, a1, a2, a3, a4, a5, a6, a7, a8, a9)) (n1 : 1 ≤ n) (n3 : n ≤ 3) (e3 : ex 3 = false) (hz : z1 = z0) :
    wL_lawOf_552 post mc ms (nI n) z0 z1 kc ks cp lv a1 a2 a3 a4 a5 a6 a7 a8 a9 := by
  refine br_t hz (qc_create (f := 3) M n3 (by omega) e3 (fun _ _ => True) trivial (fun _ _ _ _ _ _ _ _ _ => trivial) (fun h1 u hu _ pp _ => ?_))
  obtain ⟨cp', lv', b1, b2, b3, b4, b5, b6, b7, b8, b9⟩ := u
  refine br_t rfl (qc_read (f := 3) (c := 0) hu (by omega) (by omega) (fun z => qc_ft z qc_ex_s) (fun _ z => ?_) (fun _ _ _ _ => br_t (by rw [qc_CTs]) hp))
  have := qc_pop_0 (h := fun s => h1 s 3) 5 z
  omega
theorem qc_L495 (hp : post 1 ()) (M : qc_M n ex h LN CT (cp, lv, a1, a2, a3, a4, a5, a6, a7, a8, a9)) (n1 : 1 ≤ n) (n3 : n ≤ 3) (e0 : ex 0 = true) (e3 : ex 3 = true) (T : qc_T h x14) (c00 : CT 0 0 = x11) (hz : z1 = z0) :
    wL_lawOf_495 post mc ms (nI n) x11 x14 z0 z1 kc ks cp lv a1 a2 a3 a4 a5 a6 a7 a8 a9 := by
  refine br_t hz (qc_remove (f := 3) M (by omega) e3 (fun u hu => ?_))
  obtain ⟨cp', lv', b1, b2, b3, b4, b5, b6, b7, b8, b9⟩ := u
  refine br_t rfl (qc_replicas (f := 3) hu (by omega) (fun _ => br_t rfl (qc_length (f := 3) hu (by omega) (fun _ => br_t rfl ?_) (fun z => qc_ft qc_ex_s z) (fun z => qc_ft qc_ex_s z))) (fun z => qc_ft qc_ex_s z))
  refine qc_read (f := 0) (c := 0) hu (by omega) (by omega) (fun z => qc_ft z ((qc_ex_n (by decide)).trans e0)) (fun _ z => ?_) (fun _ s hs e => ?_)
  · exact br_t (qc_T0 T z) (qc_L552 hp hu n1 n3 qc_ex_s rfl)
  · exact br_f (qc_T1 T hs e) (qc_L552 hp hu n1 n3 qc_ex_s c00)
theorem qc_L471 (hp : post 1 ()) (M : qc_M n ex h LN CT (cp, lv, a1, a2, a3, a4, a5, a6, a7, a8, a9)) (n1 : 1 ≤ n) (n3 : n ≤ 3) (e0 : ex 0 = true) (e3 : ex 3 = true) (T : qc_T h x14) (c00 : CT 0 0 = x11) (hz : z1 = z0) :
    wL_lawOf_471 post mc ms (nI n) x11 x14 z0 z1 kc ks cp lv a1 a2 a3 a4 a5 a6 a7 a8 a9 := by
  refine br_t hz (qc_read (f := 0) (c := 0) M (by omega) (by omega) (fun z => qc_ft z e0) (fun _ z => ?_) (fun _ s hs e => ?_))
  · exact br_t (qc_T0 T z) (qc_L495 hp M n1 n3 e0 e3 T c00 rfl)
  · exact br_f (qc_T1 T hs e) (qc_L495 hp M n1 n3 e0 e3 T c00 c00)
/-- what holds of the picture from the lost disks to the healing -/
def qc_K (n : Nat) (ex : Nat → Bool) (h : Nat → Nat → Bool) (LN : Nat → Nat) (CT : Nat → Nat → Int32) (x3 x10 x11 : Int32) : Prop :=
  1 ≤ n ∧ n ≤ 3 ∧ (ex 0 = true ∧ ex 1 = false ∧ ex 2 = false ∧ ex 3 = true) ∧ (∀ s, s < 5 → h s 3 = h s 0) ∧ (∀ s, s < 5 → h s 0 = true → s < n) ∧ x10 = nI (LN 3) ∧ CT 0 0 = x11 ∧ CT 3 0 = x3
theorem qc_L410 (hp : post 1 ()) (M : qc_M n ex h LN CT (cp, lv, a1, a2, a3, a4, a5, a6, a7, a8, a9)) (K : qc_K n ex h LN CT x3 x10 x11) (T : qc_T h x14) (hz : z1 = z0) :
    wL_lawOf_410 post mc ms (nI n) x11 (qc_set (fun s => h s 0) 5) x14 z0 z1 kc ks cp lv a1 a2 a3 a4 a5 a6 a7 a8 a9 := by
  obtain ⟨n1, n3, ⟨e0, e1, e2, e3⟩, hh, hb, l3, c00, c30⟩ := K
  have hm := qc_miss3 (g := fun s => h s 0) n3 hb
  refine br_t hz ?_
  refine pk_loop (fun k i t => wL_lawOf_421 post mc ms (nI n) x11 (qc_set (fun s => h s 0) 5) x14 kc ks cp lv a1 a2 a3 a4 a5 a6 a7 a8 a9 k t (nI i)) (fun i t => t = nI (qc_miss (fun s => h s 0) n i)) 3 0 0 (by omega) rfl ?_ ?_
  · intro k t e
    refine pk_le 3 3 (fun _ => ?_) (fun z => absurd z (by omega))
    refine qc_heal M n3 e0 e1 e2 e3 hh (by omega) (fun z => ?_) (fun s0 hs0 es0 h1 u hu es1 => ?_)
    · exact br_t (qc_T0 T z) (qc_L471 hp M n1 n3 e0 e3 T c00 rfl)
    · obtain ⟨cp', lv', b1, b2, b3, b4, b5, b6, b7, b8, b9⟩ := u
      refine br_f (qc_T1 T hs0 es0) (qc_L471 hp hu n1 n3 e0 e3 (Or.inr ⟨qc_T1 T hs0 es0, s0, hs0, es1⟩) c00 ?_)
      rw [e, show (2 : Int32) = nI 2 from rfl, pk_mul, show n - qc_pop (fun s => h s 0) 5 = qc_miss (fun s => h s 0) n 3 by omega]
  · intro k i t hi e hw
    refine pk_le 3 i (fun z => absurd z (by omega)) (fun _ => pk_le n i (fun z => ?_) (fun z => ?_))
    · exact nm_r (nI_1 i) (hw _ (by rw [e, qc_miss_f (fun y => absurd y.1 (by omega))]))
    · cases d : h i 0
      · exact br_t (qc_bit0 (h := fun s => h s 0) (by omega) d) (nm_e (nm_r (nI_1 i) (hw _ (by rw [e, nI_1, qc_miss_t ⟨z, d⟩]))))
      · refine br_f (by rw [qc_bit1 (h := fun s => h s 0) (by omega) d]; decide) (nm_r (nI_1 i) (hw _ (by rw [e, qc_miss_f (g := fun s => h s 0) (n := n) (k := i) (fun y => qc_ft y.2 d)])))
theorem qc_L389 (hp : post 1 ()) (M : qc_M n ex h LN CT (cp, lv, a1, a2, a3, a4, a5, a6, a7, a8, a9)) (K : qc_K n ex h LN CT x3 x10 x11) (T : qc_T h x14) (hz : z1 = z0) :
    wL_lawOf_389 post mc ms (nI n) x10 x11 (qc_set (fun s => h s 0) 5) x14 z0 z1 kc ks cp lv a1 a2 a3 a4 a5 a6 a7 a8 a9 := by
  have K' := K
  obtain ⟨n1, n3, ⟨e0, e1, e2, e3⟩, hh, hb, l3, c00, c30⟩ := K'
  refine br_t hz (qc_length (f := 3) M (by omega) (fun z => qc_ft z e3) (fun _ z => ?_) (fun _ s hs e => ?_))
  · exact br_t (qc_T0 T (fun s hs => by rw [← hh s hs]; exact z s hs)) (qc_L410 hp M K T rfl)
  · exact br_f (qc_T1 T hs (by rw [← hh s hs]; exact e)) (qc_L410 hp M K T l3.symm)
theorem qc_L366 (hp : post 1 ()) (M : qc_M n ex h LN CT (cp, lv, a1, a2, a3, a4, a5, a6, a7, a8, a9)) (K : qc_K n ex h LN CT x3 x10 x11) (T : qc_T h x14) (hz : z1 = z0) :
    wL_lawOf_366 post mc ms x3 (nI n) x10 x11 (qc_set (fun s => h s 0) 5) x14 z0 z1 kc ks cp lv a1 a2 a3 a4 a5 a6 a7 a8 a9 := by
  have K' := K
  obtain ⟨n1, n3, ⟨e0, e1, e2, e3⟩, hh, hb, l3, c00, c30⟩ := K'
  refine br_t hz (qc_read (f := 3) (c := 0) M (by omega) (by omega) (fun z => qc_ft z e3) (fun _ z => ?_) (fun _ s hs e => ?_))
  · exact br_t (qc_T0 T (fun s hs => by rw [← hh s hs]; exact z s hs)) (qc_L389 hp M K T rfl)
  · exact br_f (qc_T1 T hs (by rw [← hh s hs]; exact e)) (qc_L389 hp M K T c30)
theorem qc_L335 (hp : post 1 ()) (M : qc_M n ex h LN CT (cp, lv, a1, a2, a3, a4, a5, a6, a7, a8, a9)) (K : qc_K n ex h LN CT x3 x10 x11) (hc : c < 6) (c0c : CT 0 c = x2) (T : qc_T h z0) :
    wL_lawOf_335 post mc ms x2 x3 (nI n) (nI c) x10 x11 (qc_set (fun s => h s 0) 5) z0 kc ks cp lv a1 a2 a3 a4 a5 a6 a7 a8 a9 := by
  have K' := K
  obtain ⟨n1, n3, ⟨e0, e1, e2, e3⟩, hh, hb, l3, c00, c30⟩ := K'
  unfold wL_lawOf_335
  refine qc_read (f := 0) M (by omega) hc (fun z => qc_ft z e0) (fun _ z => ?_) (fun _ s hs e => ?_)
  · exact br_t (qc_T0 T z) (qc_L366 hp M K T rfl)
  · refine br_f (qc_T1 T hs e) (pk_eq c 0 (fun z => ?_) (fun z => ?_))
    · exact qc_L366 hp M K T (by rw [z]; exact c00)
    · exact qc_L366 hp M K T c0c
/-- is the disk of server s to be lost? -/
def qc_gb (x5 : Int32) (s : Nat) : Bool := !decide ((x5 >>> (nI s &&& 31)) &&& 1 = 0)
def qc_hL (n : Nat) (x5 : Int32) (i : Nat) : Nat → Nat → Bool := fun s f => (decide (f = 0) || decide (f = 3)) && (decide (s < n) && !(decide (s < i) && qc_gb x5 s))
theorem qc_hL_ge {n : Nat} {x5 : Int32} {i s f : Nat} (hi : i ≤ s) : qc_hL n x5 i s f = ((decide (f = 0) || decide (f = 3)) && decide (s < n)) := by
  unfold qc_hL
  rw [show decide (s < i) = false from decide_eq_false (by omega)]
  simp
theorem qc_hL_n {n : Nat} {x5 : Int32} {i s f : Nat} (hi : s ≠ i) : qc_hL n x5 (i + 1) s f = qc_hL n x5 i s f := by
  unfold qc_hL
  rw [show decide (s < i + 1) = decide (s < i) from decide_eq_decide.mpr (by omega)]
theorem qc_hL_i {n : Nat} {x5 : Int32} {i f : Nat} : qc_hL n x5 (i + 1) i f = (qc_hL n x5 i i f && !qc_gb x5 i) := by
  rw [qc_hL_ge (Nat.le_refl i)]
  unfold qc_hL
  rw [show decide (i < i + 1) = true from decide_eq_true (by omega), Bool.true_and, Bool.and_assoc]
theorem qc_hL_pop {n : Nat} {x5 : Int32} {i : Nat} : qc_pop (qc_hL n x5 i i) 4 = if i < n then 2 else 0 := by
  rw [qc_pop_congr (g := fun f => (decide (f = 0) || decide (f = 3)) && decide (i < n)) 4 (fun f hf => qc_hL_ge (Nat.le_refl i))]
  by_cases z : i < n
  · rw [if_pos z, show decide (i < n) = true from decide_eq_true z]; rfl
  · rw [if_neg z, show decide (i < n) = false from decide_eq_false z]; rfl
theorem qc_L244 (hp : post 1 ()) (n1 : 1 ≤ n) (n3 : n ≤ 3) (e0 : ex 0 = true) (e1 : ex 1 = false) (e2 : ex 2 = false) (e3 : ex 3 = true) (l3 : x10 = nI (LN 3)) (c00 : CT 0 0 = x11) (c30 : CT 3 0 = x3) (hc : c < 6) (c0c : CT 0 c = x2) :
    ∀ k i, i + k = 5 → ∀ cp lv a1 a2 a3 a4 a5 a6 a7 a8 a9, qc_M n ex (qc_hL n x5 i) LN CT (cp, lv, a1, a2, a3, a4, a5, a6, a7, a8, a9) →
      wL_lawOf_244 post mc ms x2 x3 x5 (nI n) (nI c) x10 x11 kc ks (k + 1) (qc_set (fun s => qc_hL n x5 i s 0) 5) (nI i) cp lv a1 a2 a3 a4 a5 a6 a7 a8 a9 := by
  intro k
  induction k with
  | zero =>
    intro i hi cp lv a1 a2 a3 a4 a5 a6 a7 a8 a9 M
    have K : qc_K n ex (qc_hL n x5 i) LN CT x3 x10 x11 := by
      refine ⟨n1, n3, ⟨e0, e1, e2, e3⟩, fun s hs => rfl, fun s hs z => ?_, l3, c00, c30⟩
      by_cases y : s < n
      · exact y
      · have z' : ((decide (0 = 0) || decide (0 = 3)) && (decide (s < n) && !(decide (s < i) && qc_gb x5 s))) = true := z
        rw [show decide (s < n) = false from decide_eq_false y] at z'
        exact absurd z' (by simp)
    refine pk_le 5 i (fun _ => ?_) (fun z => absurd z (by omega))
    refine qc_replicas (f := 0) M (by omega) (fun z => qc_ft z e0) (fun _ => br_t rfl (qc_replicas (f := 3) M (by omega) (fun z => qc_ft z e3) (fun _ => br_t rfl ?_)))
    refine br_c (fun z => ?_) (fun z => ?_)
    · exact qc_L335 hp M K hc c0c (Or.inl ⟨rfl, fun s hs => qc_zero z hs⟩)
    · refine qc_L335 hp M K hc c0c (Or.inr ⟨by decide, ?_⟩)
      refine Classical.byContradiction (fun y => z (qc_zeroI (fun s hs => qc_bf (fun w => y ⟨s, hs, w⟩))))
  | succ k ih =>
    intro i hi cp lv a1 a2 a3 a4 a5 a6 a7 a8 a9 M
    have i5 : i < 5 := by omega
    refine pk_le 5 i (fun z => absurd z (by omega)) (fun _ => br_c (fun z => ?_) (fun z => ?_))
    · have g : qc_gb x5 i = false := by
        unfold qc_gb; rw [decide_eq_true z]; rfl
      have eh : ∀ s f, qc_hL n x5 (i + 1) s f = qc_hL n x5 i s f := fun s f => by
        by_cases d : s = i
        · rw [d, qc_hL_i, g]; simp
        · exact qc_hL_n d
      have es : qc_set (fun s => qc_hL n x5 i s 0) 5 = qc_set (fun s => qc_hL n x5 (i + 1) s 0) 5 := qc_set_congr 5 (fun s hs => (eh s 0).symm)
      rw [es]
      exact nm_r (nI_1 i) (ih (i + 1) (by omega) _ _ _ _ _ _ _ _ _ _ _ (qc_M_w M (fun s f _ _ => eh s f) (fun _ _ _ _ _ => ⟨rfl, rfl⟩)))
    · have g : qc_gb x5 i = true := by
        unfold qc_gb; rw [decide_eq_false z]; rfl
      have eh : ∀ s f, qc_hL n x5 (i + 1) s f = (if s = i then false else qc_hL n x5 i s f) := fun s f => by
        by_cases d : s = i
        · rw [d, qc_hL_i, g, if_pos rfl]; simp
        · rw [if_neg d]; exact qc_hL_n d
      have es : qc_set (fun s => qc_hL n x5 i s 0) 5 &&& (((1 : Int32) <<< (nI i &&& 31)) ^^^ (-1)) = qc_set (fun s => qc_hL n x5 (i + 1) s 0) 5 := by
        rw [qc_del _ i5]
        refine qc_set_congr 5 (fun s hs => ?_)
        show (qc_hL n x5 i s 0 && !decide (s = i)) = qc_hL n x5 (i + 1) s 0
        rw [eh s 0]
        by_cases d : s = i
        · rw [if_pos d, d]; simp
        · rw [if_neg d, decide_eq_false d]; simp
      refine qc_loseDisk M i5 (fun u hu => ?_)
      obtain ⟨cp', lv', b1, b2, b3, b4, b5, b6, b7, b8, b9⟩ := u
      have L := ih (i + 1) (by omega) _ _ _ _ _ _ _ _ _ _ _ (qc_M_w hu (fun s f _ _ => eh s f) (fun _ _ _ _ _ => ⟨rfl, rfl⟩))
      rw [qc_hL_pop]
      refine pk_le n i (fun y => ?_) (fun y => ?_)
      · rw [if_neg (show ¬ i < n by omega)]
        exact br_t rfl (nm_r es (nm_r (nI_1 i) L))
      · rw [if_pos y]
        exact br_t rfl (nm_r es (nm_r (nI_1 i) L))
theorem qc_L171 (hp : post 1 ()) (M : qc_M n ex (qc_hL n x5 0) LN CT (cp, lv, a1, a2, a3, a4, a5, a6, a7, a8, a9)) (n1 : 1 ≤ n) (n3 : n ≤ 3) (e0 : ex 0 = true) (e1 : ex 1 = false) (e2 : ex 2 = false) (e3 : ex 3 = true)
    (l3 : LN 3 = c + 1) (c00 : CT 0 0 = x11) (c30 : CT 3 0 = x3) (hc : c < 6) (c0c : CT 0 c = x2) (l0 : (0 ≤ x12 ∧ LN 0 = c + 2) ∨ (¬ 0 ≤ x12 ∧ LN 0 = 6)) (hz : z1 = z0) :
    wL_lawOf_171 post mc ms x2 x3 x5 (nI n) (((1 : Int32) <<< (nI n &&& 31)) - 1) (nI c) (nI (c + 1)) x11 x12 z0 z1 kc ks cp lv a1 a2 a3 a4 a5 a6 a7 a8 a9 := by
  have h0 : ∀ f, (f = 0 ∨ f = 3) → qc_hL n x5 0 0 f = true := fun f hf => by
    rw [qc_hL_ge (Nat.zero_le 0), decide_eq_true (show 0 < n by omega)]
    rcases hf with rfl | rfl <;> rfl
  have eset : ((1 : Int32) <<< (nI n &&& 31)) - 1 = qc_set (fun s => qc_hL n x5 0 s 0) 5 := (qc_allD n (by omega)).trans (qc_set_congr 5 (fun s hs => by
    show decide (s < n) = qc_hL n x5 0 s 0
    rw [qc_hL_ge (Nat.zero_le s)]; rfl))
  have L := qc_L244 (mc := mc) (ms := ms) (kc := kc) (ks := ks) (x5 := x5) hp n1 n3 e0 e1 e2 e3 (x10 := nI (c + 1)) (by rw [l3]) c00 c30 hc c0c 5 0 rfl _ _ _ _ _ _ _ _ _ _ _ M
  rw [← eset] at L
  refine br_t hz (qc_read (f := 0) (c := 0) M (by omega) (by omega) (fun z => qc_ft z e0) (fun _ z => qc_ft (z 0 (by omega)) (h0 0 (Or.inl rfl))) (fun _ _ _ _ => br_t c00 ?_))
  refine qc_read (f := 3) (c := 0) M (by omega) (by omega) (fun z => qc_ft z e3) (fun _ z => qc_ft (z 0 (by omega)) (h0 3 (Or.inr rfl))) (fun _ _ _ _ => br_t c30 ?_)
  refine qc_length (f := 3) M (by omega) (fun z => qc_ft z e3) (fun _ z => qc_ft (z 0 (by omega)) (h0 3 (Or.inr rfl))) (fun _ _ _ _ => br_t (by rw [l3]) ?_)
  refine qc_length (f := 0) M (by omega) (fun z => qc_ft z e0) (fun _ z => qc_ft (z 0 (by omega)) (h0 0 (Or.inl rfl))) (fun _ _ _ _ => ?_)
  rcases l0 with ⟨y, l0⟩ | ⟨y, l0⟩
  · exact br_t y (br_t (by rw [l0, nI_1]) ⟨6, L⟩)
  · exact br_f y (br_t (by rw [l0]; rfl) ⟨6, L⟩)
theorem qc_L103 (hp : post 1 ()) (M : qc_M n ex h LN CT (cp, lv, a1, a2, a3, a4, a5, a6, a7, a8, a9)) (n1 : 1 ≤ n) (n3 : n ≤ 3) (e0 : ex 0 = true) (e1 : ex 1 = false) (e2 : ex 2 = false) (e3 : ex 3 = false)
    (hh : ∀ s, s < 5 → h s 0 = decide (s < n)) (ho : ∀ s f, s < 5 → f < 4 → f ≠ 0 → h s f = false) (l0 : LN 0 = c + 1) (c00 : CT 0 0 = z0) (hc : c < 6) (c0c : CT 0 c = x2) :
    wL_lawOf_103 post mc ms x2 x3 x5 (nI n) (((1 : Int32) <<< (nI n &&& 31)) - 1) (nI c) (nI (c + 1)) z0 kc ks cp lv a1 a2 a3 a4 a5 a6 a7 a8 a9 := by
  have p0 : qc_pop (fun s => h s 0) 5 = n := (qc_pop_congr (g := fun s => decide (s < n)) 5 hh).trans (qc_popD n (by omega))
  have t0 : h 0 0 = true := by rw [hh 0 (by omega)]; exact decide_eq_true (by omega)
  unfold wL_lawOf_103
  refine qc_snapshot (f := 0) (g := 3) (s := 0) M (by omega) (by omega) (by omega) e0 e3 (by omega) t0 (fun u hu => ?_)
  obtain ⟨cp1, lv1, b1, b2, b3, b4, b5, b6, b7, b8, b9⟩ := u
  have M1 : qc_M n (qc_ex ex 3 true) (qc_hL n x5 0) (qc_LNw LN 3 (LN 0)) (qc_CTw CT 3 (CT 0)) (cp1, lv1, b1, b2, b3, b4, b5, b6, b7, b8, b9) := by
    refine qc_M_w hu (fun s f hs hf => ?_) (fun _ _ _ _ _ => ⟨rfl, rfl⟩)
    rw [qc_hL_ge (Nat.zero_le s)]
    show _ = (if f = 3 then h s 0 else h s f)
    by_cases d : f = 3
    · rw [if_pos d, hh s hs, d]; rfl
    · rw [if_neg d]
      by_cases d0 : f = 0
      · rw [d0, hh s hs]; rfl
      · rw [ho s f hs hf d0, decide_eq_false d, decide_eq_false d0]; rfl
  have h0 : ∀ f, (f = 0 ∨ f = 3) → qc_hL n x5 0 0 f = true := fun f hf => by
    rw [qc_hL_ge (Nat.zero_le 0), decide_eq_true (show 0 < n by omega)]
    rcases hf with rfl | rfl <;> rfl
  have p3 : qc_pop (fun s => qc_hL n x5 0 s 3) 5 = n := (qc_pop_congr (g := fun s => decide (s < n)) 5 (fun s hs => by
    show qc_hL n x5 0 s 3 = decide (s < n)
    rw [qc_hL_ge (Nat.zero_le s)]; rfl)).trans (qc_popD n (by omega))
  have x0 : qc_ex ex 3 true 0 = true := (qc_ex_n (by decide)).trans e0
  have x1 : qc_ex ex 3 true 1 = false := (qc_ex_n (by decide)).trans e1
  have x2' : qc_ex ex 3 true 2 = false := (qc_ex_n (by decide)).trans e2
  have x3' : qc_ex ex 3 true 3 = true := qc_ex_s
  refine br_t (by rw [p0]) (qc_snapshot2 (f := 0) (g := 3) M1 (by omega) (by omega) x0 x3' (br_t rfl ?_))
  refine qc_write (f := 3) (c := 0) (s := 0) M1 (by omega) (by omega) (by rw [qc_LNs, l0]; omega) x3' (by omega) (h0 3 (Or.inr rfl)) (fun u hu2 => ?_)
  obtain ⟨cp2, lv2, d1, d2, d3, d4, d5, d6, d7, d8, d9⟩ := u
  rw [p3]
  rw [qc_LNs, l0, Nat.max_eq_left (by omega), qc_CTs] at hu2
  have y0 : qc_LNw (qc_LNw LN 3 (c + 1)) 3 (c + 1) 0 = c + 1 := ((qc_LNn (by decide)).trans (qc_LNn (by decide))).trans l0
  have y3 : qc_LNw (qc_LNw LN 3 (c + 1)) 3 (c + 1) 3 = c + 1 := qc_LNs
  have w0 : qc_CTw (qc_CTw CT 3 (CT 0)) 3 (upd (CT 0) 0 x3) 0 = CT 0 := (qc_CTn (by decide)).trans (qc_CTn (by decide))
  have w3 : qc_CTw (qc_CTw CT 3 (CT 0)) 3 (upd (CT 0) 0 x3) 3 = upd (CT 0) 0 x3 := qc_CTs
  refine br_t rfl (qc_append (f := 0) (s := 0) hu2 (by omega) (by rw [y0]; omega) x0 (by omega) (h0 0 (Or.inl rfl)) (fun z u hu3 => ?_) (fun z => ?_))
  · obtain ⟨cp3, lv3, g1, g2, g3, g4, g5, g6, g7, g8, g9⟩ := u
    rw [y0] at z
    rw [y0, w0] at hu3
    rw [y0]
    refine pk_eq (c + 1) 6 (fun q => absurd q (by omega)) (fun _ => ?_)
    refine qc_L171 hp hu3 n1 n3 x0 x1 x2' x3' ?_ ?_ ?_ hc ?_ (Or.inl ⟨nI_pos' (by omega), qc_LNs⟩) rfl
    · rw [qc_LNn (by decide)]; exact y3
    · rw [qc_CTs, pk_un (by omega)]; exact c00
    · rw [qc_CTn (by decide), w3, pk_us]
    · rw [qc_CTs, pk_un (by omega)]; exact c0c
  · rw [y0] at z
    refine pk_eq (c + 1) 6 (fun _ => ?_) (fun q => absurd q (by omega))
    refine qc_L171 hp hu2 n1 n3 x0 x1 x2' x3' y3 (by rw [w0]; exact c00) (by rw [w3, pk_us]) hc (by rw [w0]; exact c0c) (Or.inr ⟨by decide, by rw [y0]; omega⟩) rfl
theorem qc_L29 {x1 x4 : Int32} (hp : post 1 ()) (M : qc_M n (fun _ => false) (fun _ _ => false) LN CT (cp, lv, a1, a2, a3, a4, a5, a6, a7, a8, a9)) (n1 : 1 ≤ n) (n3 : n ≤ 3) :
    wL_lawOf_29 post mc ms x1 x2 x3 x4 x5 (nI n) kc ks cp lv a1 a2 a3 a4 a5 a6 a7 a8 a9 := by
  obtain ⟨j, hj, ej⟩ := pk_andE x4 (m := 1023) 10 (by decide)
  have hc : j % 6 < 6 := Nat.mod_lt _ (by omega)
  have ec : (x4 &&& 1023) - (x4 &&& 1023) / 6 * 6 = nI (j % 6) := by
    rw [ej]; exact pk_rem (d := 6) (by omega) (by omega) (by omega)
  generalize j % 6 = c at hc ec
  refine nm_e ⟨by decide, nm_r ec ?_⟩
  refine qc_create (f := 0) M n3 (by omega) rfl (fun i h1 => ∀ s, s < 5 → h1 s 0 = decide (s < i)) (fun s _ => (decide_eq_false (by omega)).symm) (fun i h1 r hi hr J fr er mn => ?_) (fun h1 u hu fr pp J => ?_)
  · have ei : h1 i 0 = false := by rw [J i (by omega)]; exact decide_eq_false (by omega)
    have q : qc_pop (h1 i) 4 = 0 := qc_pop_0 4 (fun f hf => by
      by_cases d : f = 0
      · rw [d]; exact ei
      · exact fr i f d)
    have er' : ¬ r < i := fun z => by
      rw [J r hr, decide_eq_true z] at er
      exact absurd er (by decide)
    have m := mn i (by omega) ei
    have e : r = i := by
      rcases Nat.lt_or_ge i r with z | z
      · have := m.2 z
        omega
      · omega
    intro s hs
    by_cases d : s = i
    · rw [e, d, qc_hs_s]; exact (decide_eq_true (by omega)).symm
    · rw [e, qc_hs_n (fun z => d z.1), J s hs]; exact decide_eq_decide.mpr (by omega)
  · obtain ⟨cp1, lv1, b1, b2, b3, b4, b5, b6, b7, b8, b9⟩ := u
    have t0 : h1 0 0 = true := by rw [J 0 (by omega)]; exact decide_eq_true (by omega)
    refine br_t rfl (qc_append (f := 0) (s := 0) hu (by omega) (by rw [qc_LNs]; omega) rfl (by omega) t0 (fun _ u hu2 => ?_) (fun z => ?_))
    · obtain ⟨cp2, lv2, d1, d2, d3, d4, d5, d6, d7, d8, d9⟩ := u
      rw [qc_LNs, qc_CTs] at hu2
      refine br_t rfl (qc_write (f := 0) (c := c) (s := 0) hu2 (by omega) hc (by rw [qc_LNs]; omega) rfl (by omega) t0 (fun u hu3 => ?_))
      obtain ⟨cp3, lv3, g1, g2, g3, g4, g5, g6, g7, g8, g9⟩ := u
      rw [qc_LNs, qc_CTs] at hu3
      rw [pp]
      refine br_t rfl (nm_r (nI_1 c) (pk_eq c 0 (fun z => ?_) (fun z => ?_)))
      · refine qc_L103 hp hu3 n1 n3 rfl rfl rfl rfl J (fun s f _ _ d => fr s f d) ?_ ?_ hc ?_
        · rw [qc_LNs]; omega
        · rw [qc_CTs, z, pk_us]
        · rw [qc_CTs, pk_us]
      · refine qc_L103 hp hu3 n1 n3 rfl rfl rfl rfl J (fun s f _ _ d => fr s f d) ?_ ?_ hc ?_
        · rw [qc_LNs]; omega
        · rw [qc_CTs, pk_un (fun q => z q.symm), pk_us]
        · rw [qc_CTs, pk_us]
    · rw [qc_LNs] at z
      omega
end
theorem qc_lawOf (p0 p1 p2 p3 p4 p5 : Int32) {post : Int32 → St0 → Prop} (hp : post 1 ()) : wpL_lawOf post 10 244 () p0 p1 p2 p3 p4 p5 := by
  refine And.intro (by omega) ⟨by omega, 9, 233, by omega, by omega, ?_⟩
  refine qc_init (LN := fun _ => 0) (CT := fun _ _ => 0) (fun n u n1 n3 hc hu => ?_)
  obtain ⟨cp, lv, a1, a2, a3, a4, a5, a6, a7, a8, a9⟩ := u
  rcases hc with ⟨c1, e⟩ | ⟨c1, c3, e⟩ | ⟨c1, c3, e⟩
  · rw [e] at hu
    exact br_f c1 (qc_L29 (n := 1) hp hu (by omega) (by omega))
  · refine br_t c1 (br_t c3 ?_)
    rw [e]
    exact qc_L29 hp hu n1 n3
  · rw [e] at hu
    exact br_t c1 (br_f c3 (qc_L29 (n := 3) hp hu (by omega) (by omega)))
theorem qc_cellAt {post : Int32 → Prop} {L : Nat} {xs : Nat → Int32} {k : Nat} (hk : k < 6) (hL : L ≤ 6) (hp : ∀ x, post x) : wpL_cellAt post L xs () (nI k) :=
  pk_le L k (fun _ => hp _) (fun z => ⟨pk_in k L z, hp _⟩)
theorem i_vc (xs : Nat → Int32) (L : Nat) (hL : L ≤ 6) : wpL_law (fun r => r = 1) L xs := by
  unfold wpL_law
  refine qc_cellAt (k := 0) (by omega) hL (fun r1 => ?_)
  refine qc_cellAt (k := 1) (by omega) hL (fun r2 => ?_)
  refine qc_cellAt (k := 2) (by omega) hL (fun r3 => ?_)
  refine qc_cellAt (k := 3) (by omega) hL (fun r4 => ?_)
  refine qc_cellAt (k := 4) (by omega) hL (fun r5 => ?_)
  refine qc_cellAt (k := 5) (by omega) hL (fun r6 => ?_)
  exact ⟨10, 244, by omega, by omega, qc_lawOf r1 r2 r3 r4 r5 r6 rfl⟩
end
