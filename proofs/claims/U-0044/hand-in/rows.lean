section
section WO
/-! words over three letters, and their numbers -/
def wo_V (w : List Nat) : Prop := ∀ c, c ∈ w → c < 3
def wo_cd : List Nat → Nat
  | [] => 0
  | c :: w => (c + 1) * 3 ^ w.length + wo_cd w
theorem wo_V0 : wo_V [] := fun _ h => nomatch h
theorem wo_Vc {c : Nat} {w : List Nat} : wo_V (c :: w) ↔ c < 3 ∧ wo_V w := by
  unfold wo_V
  constructor
  · intro h
    exact ⟨h c (List.mem_cons_self ..), fun d hd => h d (List.mem_cons_of_mem _ hd)⟩
  · rintro ⟨h1, h2⟩ d hd
    rcases List.mem_cons.mp hd with rfl | hd
    · exact h1
    · exact h2 d hd
theorem wo_Va {x y : List Nat} : wo_V (x ++ y) ↔ wo_V x ∧ wo_V y := by
  unfold wo_V
  constructor
  · intro h
    exact ⟨fun c hc => h c (List.mem_append_left _ hc), fun c hc => h c (List.mem_append_right _ hc)⟩
  · rintro ⟨h1, h2⟩ c hc
    rcases List.mem_append.mp hc with hc | hc
    · exact h1 c hc
    · exact h2 c hc
theorem wo_Vt {w : List Nat} (h : wo_V w) (k : Nat) : wo_V (w.take k) := fun c hc => h c (List.mem_of_mem_take hc)
theorem wo_Vd {w : List Nat} (h : wo_V w) (k : Nat) : wo_V (w.drop k) := fun c hc => h c (List.mem_of_mem_drop hc)
theorem wo_app (x y : List Nat) : wo_cd (x ++ y) = wo_cd x * 3 ^ y.length + wo_cd y := by
  induction x with
  | nil => simp [wo_cd]
  | cons c x ih =>
    simp only [List.cons_append, wo_cd, ih, List.length_append, Nat.pow_add]
    rw [Nat.add_mul (((c + 1) * 3 ^ x.length)), Nat.mul_assoc, Nat.add_assoc]
theorem wo_snoc (x : List Nat) (c : Nat) : wo_cd (x ++ [c]) = 3 * wo_cd x + c + 1 := by
  rw [wo_app]
  simp [wo_cd]
  omega
theorem wo_lo (w : List Nat) : 3 ^ w.length ≤ 2 * wo_cd w + 1 := by
  induction w with
  | nil => simp [wo_cd]
  | cons c w ih =>
    simp only [wo_cd, List.length_cons, Nat.pow_succ]
    have h : 3 ^ w.length ≤ (c + 1) * 3 ^ w.length := Nat.le_mul_of_pos_left _ (by omega)
    omega
theorem wo_hi {w : List Nat} (h : wo_V w) : 2 * wo_cd w + 1 < 3 ^ (w.length + 1) := by
  induction w with
  | nil => simp [wo_cd]
  | cons c w ih =>
    have ⟨hc, hw⟩ := wo_Vc.mp h
    have ih := ih hw
    simp only [wo_cd, List.length_cons, Nat.pow_succ] at ih ⊢
    have h : (c + 1) * 3 ^ w.length ≤ 3 * 3 ^ w.length := Nat.mul_le_mul_right _ (by omega)
    omega
theorem wo_ltlen {w v : List Nat} (h : wo_V w) (hl : w.length < v.length) : wo_cd w < wo_cd v := by
  have h1 := wo_hi h
  have h2 := wo_lo v
  have h3 : 3 ^ (w.length + 1) ≤ 3 ^ v.length := Nat.pow_le_pow_right (by omega) hl
  omega
theorem wo_lelen {w v : List Nat} (h : wo_V v) (hl : wo_cd w ≤ wo_cd v) : w.length ≤ v.length := by
  rcases Nat.lt_or_ge v.length w.length with h1 | h1
  · have := wo_ltlen h h1
    omega
  · exact h1
theorem wo_ord {w v : List Nat} (hw : wo_V w) (hv : wo_V v) (hl : w.length = v.length) : wo_cd w = wo_cd v → w = v := by
  induction w generalizing v with
  | nil =>
    intro _
    cases v with
    | nil => rfl
    | cons d v => simp at hl
  | cons c w ih =>
    cases v with
    | nil => simp at hl
    | cons d v =>
      intro e
      have ⟨hc, hw⟩ := wo_Vc.mp hw
      have ⟨hd, hv⟩ := wo_Vc.mp hv
      have hl : w.length = v.length := by simpa using hl
      have a1 := wo_lo w
      have a2 := wo_hi hw
      have b1 := wo_lo v
      have b2 := wo_hi hv
      simp only [wo_cd] at e
      rw [hl] at e a1 a2
      simp only [Nat.pow_succ] at a2 b2
      have key : c = d ∧ wo_cd w = wo_cd v := by
        generalize 3 ^ v.length = P at e a1 a2 b1 b2
        have ec : c = 0 ∨ c = 1 ∨ c = 2 := by omega
        have ed : d = 0 ∨ d = 1 ∨ d = 2 := by omega
        rcases ec with rfl | rfl | rfl <;> rcases ed with rfl | rfl | rfl <;> omega
      rw [key.1, ih hw hv hl key.2]
theorem wo_inj {w v : List Nat} (hw : wo_V w) (hv : wo_V v) (e : wo_cd w = wo_cd v) : w = v :=
  wo_ord hw hv (Nat.le_antisymm (wo_lelen hv (Nat.le_of_eq e)) (wo_lelen hw (Nat.le_of_eq e.symm))) e
theorem wo_sur (n : Nat) : ∃ w, wo_V w ∧ wo_cd w = n := by
  induction n using Nat.strongRecOn with
  | _ n ih =>
    cases n with
    | zero => exact ⟨[], wo_V0, rfl⟩
    | succ n =>
      obtain ⟨w, h1, h2⟩ := ih (n / 3) (by omega)
      refine ⟨w ++ [n % 3], wo_Va.mpr ⟨h1, wo_Vc.mpr ⟨by omega, wo_V0⟩⟩, ?_⟩
      rw [wo_snoc, h2]
      omega
def wo_ws : Nat → Nat
  | 0 => 1
  | n + 1 => 3 * wo_ws n + 1
theorem wo_wsE (n : Nat) : 2 * wo_ws n + 1 = 3 ^ (n + 1) := by
  induction n with
  | zero => rfl
  | succ n ih =>
    simp only [wo_ws]
    rw [Nat.pow_succ]
    omega
theorem wo_ws6 : wo_ws 6 = 1093 := by decide
theorem wo_wsLe {w : List Nat} (h : wo_V w) (n : Nat) : wo_cd w < wo_ws n ↔ w.length ≤ n := by
  have h1 := wo_lo w
  have h2 := wo_hi h
  have h3 := wo_wsE n
  constructor
  · intro hl
    rcases Nat.lt_or_ge n w.length with hg | hg
    · have h4 : 3 ^ (n + 1) ≤ 3 ^ w.length := Nat.pow_le_pow_right (by omega) hg
      omega
    · exact hg
  · intro hl
    have h4 : 3 ^ (w.length + 1) ≤ 3 ^ (n + 1) := Nat.pow_le_pow_right (by omega) (by omega)
    omega
theorem wo_six {w : List Nat} (h : wo_V w) : wo_cd w < 1093 ↔ w.length ≤ 6 := by
  rw [← wo_ws6]
  exact wo_wsLe h 6
theorem wo_wsM {n m : Nat} (h : n ≤ m) : wo_ws n ≤ wo_ws m := by
  have h1 := wo_wsE n
  have h2 := wo_wsE m
  have h4 : 3 ^ (n + 1) ≤ 3 ^ (m + 1) := Nat.pow_le_pow_right (by omega) (by omega)
  omega
theorem wo_z {w : List Nat} : wo_cd w = 0 ↔ w = [] := by
  constructor
  · intro h
    cases w with
    | nil => rfl
    | cons c w =>
      have := wo_lo (c :: w)
      rw [h, List.length_cons, Nat.pow_succ] at this
      have : 0 < 3 ^ w.length := Nat.pow_pos (by omega)
      omega
  · rintro rfl
    rfl
theorem wo_split (w : List Nat) (k : Nat) : wo_cd w = wo_cd (w.take k) * 3 ^ (w.length - k) + wo_cd (w.drop k) := by
  have h := wo_app (w.take k) (w.drop k)
  rw [List.take_append_drop, List.length_drop] at h
  exact h
theorem wo_take {w : List Nat} {k : Nat} (h : k < w.length) : w.take (k + 1) = w.take k ++ [w[k]] := by
  rw [List.take_add_one, List.getElem?_eq_getElem h]
  rfl
theorem wo_pre {w : List Nat} {k : Nat} (hv : wo_V w) (h : k < w.length) : (wo_cd (w.take (k + 1)) - 1) / 3 = wo_cd (w.take k) := by
  have hc : w[k] < 3 := hv _ (List.getElem_mem h)
  rw [wo_take h, wo_snoc]
  omega
theorem wo_last {w : List Nat} {k : Nat} (hv : wo_V w) (h : k < w.length) : (wo_cd (w.take (k + 1)) - 1) % 3 = w[k] := by
  have hc : w[k] < 3 := hv _ (List.getElem_mem h)
  rw [wo_take h, wo_snoc]
  omega
/-! two bits a letter -/
def wo_c4 : List Nat → Nat
  | [] => 0
  | c :: w => c * 4 ^ w.length + wo_c4 w
theorem wo_4app (x y : List Nat) : wo_c4 (x ++ y) = wo_c4 x * 4 ^ y.length + wo_c4 y := by
  induction x with
  | nil => simp [wo_c4]
  | cons c x ih =>
    simp only [List.cons_append, wo_c4, ih, List.length_append, Nat.pow_add]
    rw [Nat.add_mul ((c * 4 ^ x.length)), Nat.mul_assoc, Nat.add_assoc]
theorem wo_4lt {w : List Nat} (h : wo_V w) : wo_c4 w < 4 ^ w.length := by
  induction w with
  | nil => simp [wo_c4]
  | cons c w ih =>
    have ⟨hc, hw⟩ := wo_Vc.mp h
    have ih := ih hw
    simp only [wo_c4, List.length_cons, Nat.pow_succ]
    have h : c * 4 ^ w.length ≤ 2 * 4 ^ w.length := Nat.mul_le_mul_right _ (by omega)
    omega
theorem wo_4ord {w v : List Nat} (hw : wo_V w) (hv : wo_V v) (hl : w.length = v.length) : wo_c4 w < wo_c4 v ↔ wo_cd w < wo_cd v := by
  induction w generalizing v with
  | nil =>
    cases v with
    | nil => simp [wo_c4, wo_cd]
    | cons d v => simp at hl
  | cons c w ih =>
    cases v with
    | nil => simp at hl
    | cons d v =>
      have ⟨hc, hw⟩ := wo_Vc.mp hw
      have ⟨hd, hv⟩ := wo_Vc.mp hv
      have hl : w.length = v.length := by simpa using hl
      have a1 := wo_lo w
      have a2 := wo_hi hw
      have b1 := wo_lo v
      have b2 := wo_hi hv
      have a4 := wo_4lt hw
      have b4 := wo_4lt hv
      have ih := ih hw hv hl
      simp only [wo_cd, wo_c4]
      rw [hl] at a1 a2 a4 ⊢
      simp only [Nat.pow_succ] at a2 b2
      generalize 3 ^ v.length = P at *
      generalize 4 ^ v.length = Q at *
      have ec : c = 0 ∨ c = 1 ∨ c = 2 := by omega
      have ed : d = 0 ∨ d = 1 ∨ d = 2 := by omega
      rcases ec with rfl | rfl | rfl <;> rcases ed with rfl | rfl | rfl <;> omega
theorem wo_4dig {x y : List Nat} {c : Nat} (hc : c < 3) (hy : wo_V y) : wo_c4 (x ++ c :: y) / 4 ^ y.length % 4 = c := by
  have h := wo_4lt hy
  rw [wo_4app]
  simp only [wo_c4, List.length_cons, Nat.pow_succ]
  have e : wo_c4 x * (4 ^ y.length * 4) + (c * 4 ^ y.length + wo_c4 y) = wo_c4 y + (wo_c4 x * 4 + c) * 4 ^ y.length := by
    rw [Nat.add_mul, Nat.mul_assoc (wo_c4 x), Nat.mul_comm 4]
    omega
  rw [e, Nat.add_mul_div_right _ _ (Nat.pow_pos (by omega)), Nat.div_eq_of_lt h]
  omega
/-! a stretch of a function -/
def wo_sg (f : Nat → Nat) : Nat → Nat → List Nat
  | _, 0 => []
  | lo, n + 1 => f lo :: wo_sg f (lo + 1) n
theorem wo_sgL (f : Nat → Nat) (lo n : Nat) : (wo_sg f lo n).length = n := by
  induction n generalizing lo with
  | zero => rfl
  | succ n ih => simp [wo_sg, ih]
theorem wo_sgA (f : Nat → Nat) (lo m n : Nat) : wo_sg f lo (m + n) = wo_sg f lo m ++ wo_sg f (lo + m) n := by
  induction m generalizing lo with
  | zero => simp [wo_sg]
  | succ m ih =>
    rw [Nat.succ_add]
    simp only [wo_sg, List.cons_append]
    rw [ih, show lo + 1 + m = lo + (m + 1) by omega]
theorem wo_sgS (f : Nat → Nat) (lo n : Nat) : wo_sg f lo (n + 1) = wo_sg f lo n ++ [f (lo + n)] := wo_sgA f lo n 1
theorem wo_sgV {f : Nat → Nat} {lo n : Nat} (h : ∀ i, lo ≤ i → i < lo + n → f i < 3) : wo_V (wo_sg f lo n) := by
  induction n generalizing lo with
  | zero => exact wo_V0
  | succ n ih => exact wo_Vc.mpr ⟨h lo (by omega) (by omega), ih fun i h1 h2 => h i (by omega) (by omega)⟩
theorem wo_sgC {f g : Nat → Nat} {lo n : Nat} (h : ∀ i, lo ≤ i → i < lo + n → f i = g i) : wo_sg f lo n = wo_sg g lo n := by
  induction n generalizing lo with
  | zero => rfl
  | succ n ih =>
    simp only [wo_sg]
    rw [h lo (by omega) (by omega), ih fun i h1 h2 => h i (by omega) (by omega)]
theorem wo_sgT {f : Nat → Nat} {lo n k : Nat} (h : k ≤ n) : (wo_sg f lo n).take k = wo_sg f lo k := by
  obtain ⟨m, rfl⟩ : ∃ m, n = k + m := ⟨n - k, by omega⟩
  rw [wo_sgA]
  exact List.take_left' (wo_sgL f lo k)
theorem wo_sgD {f : Nat → Nat} {lo n k : Nat} (h : k ≤ n) : (wo_sg f lo n).drop k = wo_sg f (lo + k) (n - k) := by
  obtain ⟨m, rfl⟩ : ∃ m, n = k + m := ⟨n - k, by omega⟩
  rw [wo_sgA, Nat.add_sub_cancel_left]
  exact List.drop_left' (wo_sgL f lo k)
theorem wo_sgG {f : Nat → Nat} {lo n k : Nat} (h : k < (wo_sg f lo n).length) : (wo_sg f lo n)[k] = f (lo + k) := by
  induction n generalizing lo k with
  | zero => exact absurd h (by simp [wo_sg])
  | succ n ih =>
    cases k with
    | zero => rfl
    | succ k =>
      simp only [wo_sg, List.getElem_cons_succ]
      rw [ih, show lo + 1 + k = lo + (k + 1) by omega]
/-! cuts -/
def wo_Sp (P Q : List Nat → Prop) (w : List Nat) : Prop := ∃ k, k ≤ w.length ∧ P (w.take k) ∧ Q (w.drop k)
def wo_Am (P Q : List Nat → Prop) (w : List Nat) : Prop := ∃ k l, k < l ∧ l ≤ w.length ∧ (P (w.take k) ∧ Q (w.drop k)) ∧ P (w.take l) ∧ Q (w.drop l)
theorem wo_SpE {P Q : List Nat → Prop} {w : List Nat} : wo_Sp P Q w ↔ ∃ x y, w = x ++ y ∧ P x ∧ Q y := by
  constructor
  · rintro ⟨k, _, hP, hQ⟩
    exact ⟨_, _, (List.take_append_drop k w).symm, hP, hQ⟩
  · rintro ⟨x, y, rfl, hP, hQ⟩
    refine ⟨x.length, by simp, ?_, ?_⟩
    · rw [List.take_left' rfl]; exact hP
    · rw [List.drop_left' rfl]; exact hQ
theorem wo_AmE {P Q : List Nat → Prop} {w : List Nat} : wo_Am P Q w ↔ ∃ x y x' y', w = x ++ y ∧ w = x' ++ y' ∧ x.length ≠ x'.length ∧ (P x ∧ Q y) ∧ P x' ∧ Q y' := by
  constructor
  · rintro ⟨k, l, h1, h2, hP, hQ⟩
    refine ⟨_, _, _, _, (List.take_append_drop k w).symm, (List.take_append_drop l w).symm, ?_, hP, hQ⟩
    rw [List.length_take, List.length_take]
    omega
  · rintro ⟨x, y, x', y', e, e', hn, h, h'⟩
    have a1 : w.take x.length = x := by rw [e, List.take_left' rfl]
    have a2 : w.drop x.length = y := by rw [e, List.drop_left' rfl]
    have b1 : w.take x'.length = x' := by rw [e', List.take_left' rfl]
    have b2 : w.drop x'.length = y' := by rw [e', List.drop_left' rfl]
    have la : x.length ≤ w.length := by rw [e]; simp
    have lb : x'.length ≤ w.length := by rw [e']; simp
    rcases Nat.lt_or_gt_of_ne hn with hl | hl
    · exact ⟨_, _, hl, lb, by rw [a1, a2]; exact h, by rw [b1, b2]; exact h'⟩
    · exact ⟨_, _, hl, la, by rw [b1, b2]; exact h', by rw [a1, a2]; exact h⟩
theorem wo_SpC {P Q P' Q' : List Nat → Prop} {w : List Nat} (hw : wo_V w) (hl : w.length ≤ 6) (hP : ∀ v, wo_V v → v.length ≤ 6 → (P v ↔ P' v)) (hQ : ∀ v, wo_V v → v.length ≤ 6 → (Q v ↔ Q' v)) : wo_Sp P Q w ↔ wo_Sp P' Q' w := by
  unfold wo_Sp
  refine exists_congr fun k => and_congr_right fun hk => ?_
  rw [hP _ (wo_Vt hw k) (by rw [List.length_take]; omega), hQ _ (wo_Vd hw k) (by rw [List.length_drop]; omega)]
theorem wo_AmC {P Q P' Q' : List Nat → Prop} {w : List Nat} (hw : wo_V w) (hl : w.length ≤ 6) (hP : ∀ v, wo_V v → v.length ≤ 6 → (P v ↔ P' v)) (hQ : ∀ v, wo_V v → v.length ≤ 6 → (Q v ↔ Q' v)) : wo_Am P Q w ↔ wo_Am P' Q' w := by
  unfold wo_Am
  refine exists_congr fun k => exists_congr fun l => and_congr_right fun _ => and_congr_right fun hk => ?_
  rw [hP _ (wo_Vt hw k) (by rw [List.length_take]; omega), hQ _ (wo_Vd hw k) (by rw [List.length_drop]; omega), hP _ (wo_Vt hw l) (by rw [List.length_take]; omega), hQ _ (wo_Vd hw l) (by rw [List.length_drop]; omega)]
end WO
end
section
section AU
/-! position automata, by predicates -/
def au_Ac (G : Nat → Nat → Prop) (L : Nat → Prop) (rd : Nat → Nat → Prop) : List Nat → Nat → Prop
  | [], p => L p
  | c :: w, p => ∃ q, G p q ∧ rd q c ∧ au_Ac G L rd w q
def au_An (E : Prop) (F : Nat → Prop) (G : Nat → Nat → Prop) (L : Nat → Prop) (rd : Nat → Nat → Prop) : List Nat → Prop
  | [] => E
  | c :: w => ∃ p, F p ∧ rd p c ∧ au_Ac G L rd w p
/-- all that the automaton speaks of lies in D -/
def au_In (D : Nat → Prop) (F : Nat → Prop) (G : Nat → Nat → Prop) (L : Nat → Prop) : Prop :=
  (∀ p, F p → D p) ∧ (∀ p q, G p q → D p ∧ D q) ∧ (∀ p, L p → D p)
theorem au_AcC {G G' : Nat → Nat → Prop} {L L' : Nat → Prop} {rd rd' : Nat → Nat → Prop} (D : Nat → Prop)
    (hG : ∀ p q, D p → (G p q ↔ G' p q)) (hD : ∀ p q, D p → G p q → D q) (hL : ∀ p, D p → (L p ↔ L' p))
    (hr : ∀ p c, D p → (rd p c ↔ rd' p c)) : ∀ w p, D p → (au_Ac G L rd w p ↔ au_Ac G' L' rd' w p) := by
  intro w
  induction w with
  | nil => intro p hp; exact hL p hp
  | cons c w ih =>
    intro p hp
    constructor
    · rintro ⟨q, h1, h2, h3⟩
      have hq := hD p q hp h1
      exact ⟨q, (hG p q hp).mp h1, (hr q c hq).mp h2, (ih q hq).mp h3⟩
    · rintro ⟨q, h1, h2, h3⟩
      have h1 := (hG p q hp).mpr h1
      have hq := hD p q hp h1
      exact ⟨q, h1, (hr q c hq).mpr h2, (ih q hq).mpr h3⟩
theorem au_AnC {E E' : Prop} {F F' : Nat → Prop} {G G' : Nat → Nat → Prop} {L L' : Nat → Prop} {rd rd' : Nat → Nat → Prop} (D : Nat → Prop)
    (hE : E ↔ E') (hF : ∀ p, F p ↔ F' p) (hFD : ∀ p, F p → D p)
    (hG : ∀ p q, D p → (G p q ↔ G' p q)) (hD : ∀ p q, D p → G p q → D q) (hL : ∀ p, D p → (L p ↔ L' p))
    (hr : ∀ p c, D p → (rd p c ↔ rd' p c)) (w : List Nat) : au_An E F G L rd w ↔ au_An E' F' G' L' rd' w := by
  cases w with
  | nil => exact hE
  | cons c w =>
    constructor
    · rintro ⟨p, h1, h2, h3⟩
      have hp := hFD p h1
      exact ⟨p, (hF p).mp h1, (hr p c hp).mp h2, (au_AcC D hG hD hL hr w p hp).mp h3⟩
    · rintro ⟨p, h1, h2, h3⟩
      have h1 := (hF p).mpr h1
      have hp := hFD p h1
      exact ⟨p, h1, (hr p c hp).mpr h2, (au_AcC D hG hD hL hr w p hp).mpr h3⟩
theorem au_AcV {G : Nat → Nat → Prop} {L : Nat → Prop} {rd : Nat → Nat → Prop} (hr : ∀ p c, rd p c → c < 3) : ∀ w p, au_Ac G L rd w p → wo_V w := by
  intro w
  induction w with
  | nil => intro p _; exact wo_V0
  | cons c w ih =>
    rintro p ⟨q, _, h2, h3⟩
    exact wo_Vc.mpr ⟨hr _ _ h2, ih q h3⟩
theorem au_AnV {E : Prop} {F : Nat → Prop} {G : Nat → Nat → Prop} {L : Nat → Prop} {rd : Nat → Nat → Prop} (hr : ∀ p c, rd p c → c < 3) {w : List Nat} (h : au_An E F G L rd w) : wo_V w := by
  cases w with
  | nil => exact wo_V0
  | cons c w =>
    obtain ⟨p, _, h2, h3⟩ := h
    exact wo_Vc.mpr ⟨hr _ _ h2, au_AcV hr w p h3⟩
/-! blank, one position -/
theorem au_blank {F : Nat → Prop} {G : Nat → Nat → Prop} {L : Nat → Prop} {rd : Nat → Nat → Prop} {E : Prop} (hE : E) (hF : ∀ p, ¬ F p) (w : List Nat) : au_An E F G L rd w ↔ w = [] := by
  cases w with
  | nil => exact ⟨fun _ => rfl, fun _ => hE⟩
  | cons c w =>
    constructor
    · rintro ⟨p, h1, _⟩
      exact absurd h1 (hF p)
    · intro h; exact nomatch h
theorem au_pos {F : Nat → Prop} {G : Nat → Nat → Prop} {L : Nat → Prop} {rd : Nat → Nat → Prop} {E : Prop} {m : Nat} (hE : ¬ E) (hF : ∀ p, F p ↔ p = m) (hL : ∀ p, L p ↔ p = m) (hG : ∀ p q, ¬ G p q) (w : List Nat) : au_An E F G L rd w ↔ ∃ c, w = [c] ∧ rd m c := by
  cases w with
  | nil =>
    constructor
    · intro h; exact absurd h hE
    · rintro ⟨c, h, _⟩; exact nomatch h
  | cons c w =>
    constructor
    · rintro ⟨p, h1, h2, h3⟩
      have e := (hF p).mp h1
      subst e
      cases w with
      | nil => exact ⟨c, rfl, h2⟩
      | cons d w =>
        obtain ⟨q, h4, _⟩ := h3
        exact absurd h4 (hG _ _)
    · rintro ⟨d, h, hd⟩
      cases h
      exact ⟨m, (hF m).mpr rfl, hd, (hL m).mpr rfl⟩
/-! one behind the other -/
section CAT
variable {Da Db : Nat → Prop} {Ea Eb : Prop} {Fa Fb La Lb F L : Nat → Prop} {Ga Gb G : Nat → Nat → Prop} {rd : Nat → Nat → Prop} {E : Prop}
theorem au_c1 (dj : ∀ p, Da p → ¬ Db p) (ia : au_In Da Fa Ga La) (ib : au_In Db Fb Gb Lb)
    (hG : ∀ p q, G p q ↔ Ga p q ∨ Gb p q ∨ (La p ∧ Fb q)) (hL : ∀ p, L p ↔ Lb p ∨ (Eb ∧ La p)) :
    ∀ w p, Db p → (au_Ac G L rd w p ↔ au_Ac Gb Lb rd w p) := by
  refine au_AcC Db ?_ ?_ ?_ fun _ _ _ => Iff.rfl
  · intro p q hp
    rw [hG]
    constructor
    · rintro (h | h | h)
      · exact absurd hp (dj _ (ia.2.1 _ _ h).1)
      · exact h
      · exact absurd hp (dj _ (ia.2.2 _ h.1))
    · intro h; exact Or.inr (Or.inl h)
  · intro p q hp h
    rcases (hG p q).mp h with h | h | h
    · exact absurd hp (dj _ (ia.2.1 _ _ h).1)
    · exact (ib.2.1 _ _ h).2
    · exact absurd hp (dj _ (ia.2.2 _ h.1))
  · intro p hp
    rw [hL]
    constructor
    · rintro (h | h)
      · exact h
      · exact absurd hp (dj _ (ia.2.2 _ h.2))
    · intro h; exact Or.inl h
theorem au_c2 (dj : ∀ p, Da p → ¬ Db p) (ia : au_In Da Fa Ga La) (ib : au_In Db Fb Gb Lb)
    (hG : ∀ p q, G p q ↔ Ga p q ∨ Gb p q ∨ (La p ∧ Fb q)) (hL : ∀ p, L p ↔ Lb p ∨ (Eb ∧ La p)) :
    ∀ w p, Da p → (au_Ac G L rd w p ↔ ∃ x y, w = x ++ y ∧ au_Ac Ga La rd x p ∧ au_An Eb Fb Gb Lb rd y) := by
  intro w
  induction w with
  | nil =>
    intro p hp
    constructor
    · intro h
      rcases (hL p).mp h with h | h
      · exact absurd (ib.2.2 _ h) (dj p hp)
      · exact ⟨[], [], rfl, h.2, h.1⟩
    · rintro ⟨x, y, e, hx, hy⟩
      obtain ⟨rfl, rfl⟩ := List.append_eq_nil_iff.mp e.symm
      exact (hL p).mpr (Or.inr ⟨hy, hx⟩)
  | cons c w ih =>
    intro p hp
    constructor
    · rintro ⟨q, h1, h2, h3⟩
      rcases (hG p q).mp h1 with h | h | h
      · obtain ⟨x, y, e, hx, hy⟩ := (ih q (ia.2.1 _ _ h).2).mp h3
        exact ⟨c :: x, y, by rw [e]; rfl, ⟨q, h, h2, hx⟩, hy⟩
      · exact absurd (ib.2.1 _ _ h).1 (dj p hp)
      · exact ⟨[], c :: w, rfl, h.1, q, h.2, h2, (au_c1 dj ia ib hG hL w q (ib.1 _ h.2)).mp h3⟩
    · rintro ⟨x, y, e, hx, hy⟩
      cases x with
      | nil =>
        cases (show c :: w = y from e)
        obtain ⟨q, h1, h2, h3⟩ := hy
        exact ⟨q, (hG p q).mpr (Or.inr (Or.inr ⟨hx, h1⟩)), h2, (au_c1 dj ia ib hG hL w q (ib.1 _ h1)).mpr h3⟩
      | cons d x =>
        have e' : c = d ∧ w = x ++ y := List.cons.inj e
        obtain ⟨rfl, e'⟩ := e'
        obtain ⟨q, h1, h2, h3⟩ := hx
        exact ⟨q, (hG p q).mpr (Or.inl h1), h2, (ih q (ia.2.1 _ _ h1).2).mpr ⟨x, y, e', h3, hy⟩⟩
theorem au_c3 (dj : ∀ p, Da p → ¬ Db p) (ia : au_In Da Fa Ga La) (ib : au_In Db Fb Gb Lb)
    (hG : ∀ p q, G p q ↔ Ga p q ∨ Gb p q ∨ (La p ∧ Fb q)) (hL : ∀ p, L p ↔ Lb p ∨ (Eb ∧ La p))
    (hF : ∀ p, F p ↔ Fa p ∨ (Ea ∧ Fb p)) (hE : E ↔ Ea ∧ Eb) (w : List Nat) :
    au_An E F G L rd w ↔ wo_Sp (au_An Ea Fa Ga La rd) (au_An Eb Fb Gb Lb rd) w := by
  rw [wo_SpE]
  cases w with
  | nil =>
    constructor
    · intro h
      have h := hE.mp h
      exact ⟨[], [], rfl, h.1, h.2⟩
    · rintro ⟨x, y, e, hx, hy⟩
      obtain ⟨rfl, rfl⟩ := List.append_eq_nil_iff.mp e.symm
      exact hE.mpr ⟨hx, hy⟩
  | cons c w =>
    constructor
    · rintro ⟨q, h1, h2, h3⟩
      rcases (hF q).mp h1 with h | h
      · obtain ⟨x, y, e, hx, hy⟩ := (au_c2 dj ia ib hG hL w q (ia.1 _ h)).mp h3
        exact ⟨c :: x, y, by rw [e]; rfl, ⟨q, h, h2, hx⟩, hy⟩
      · exact ⟨[], c :: w, rfl, h.1, q, h.2, h2, (au_c1 dj ia ib hG hL w q (ib.1 _ h.2)).mp h3⟩
    · rintro ⟨x, y, e, hx, hy⟩
      cases x with
      | nil =>
        cases (show c :: w = y from e)
        obtain ⟨q, h1, h2, h3⟩ := hy
        exact ⟨q, (hF q).mpr (Or.inr ⟨hx, h1⟩), h2, (au_c1 dj ia ib hG hL w q (ib.1 _ h1)).mpr h3⟩
      | cons d x =>
        have e' : c = d ∧ w = x ++ y := List.cons.inj e
        obtain ⟨rfl, e'⟩ := e'
        obtain ⟨q, h1, h2, h3⟩ := hx
        exact ⟨q, (hF q).mpr (Or.inl h1), h2, (au_c2 dj ia ib hG hL w q (ia.1 _ h1)).mpr ⟨x, y, e', h3, hy⟩⟩
theorem au_u (dj : ∀ p, Da p → ¬ Db p) (ia : au_In Da Fa Ga La) (ib : au_In Db Fb Gb Lb)
    (hG : ∀ p q, G p q ↔ Ga p q ∨ Gb p q) (hL : ∀ p, L p ↔ La p ∨ Lb p) (hF : ∀ p, F p ↔ Fa p ∨ Fb p) (hE : E ↔ Ea ∨ Eb) :
    (∀ w p, Da p → (au_Ac G L rd w p ↔ au_Ac Ga La rd w p)) ∧ (∀ w p, Db p → (au_Ac G L rd w p ↔ au_Ac Gb Lb rd w p)) ∧
    ∀ w, (au_An E F G L rd w ↔ au_An Ea Fa Ga La rd w ∨ au_An Eb Fb Gb Lb rd w) := by
  have A : ∀ w p, Da p → (au_Ac G L rd w p ↔ au_Ac Ga La rd w p) := by
    refine au_AcC Da ?_ ?_ ?_ fun _ _ _ => Iff.rfl
    · intro p q hp
      rw [hG]
      exact ⟨fun h => h.elim id fun h => absurd (ib.2.1 _ _ h).1 (dj p hp), Or.inl⟩
    · intro p q hp h
      rcases (hG p q).mp h with h | h
      · exact (ia.2.1 _ _ h).2
      · exact absurd (ib.2.1 _ _ h).1 (dj p hp)
    · intro p hp
      rw [hL]
      exact ⟨fun h => h.elim id fun h => absurd (ib.2.2 _ h) (dj p hp), Or.inl⟩
  have B : ∀ w p, Db p → (au_Ac G L rd w p ↔ au_Ac Gb Lb rd w p) := by
    refine au_AcC Db ?_ ?_ ?_ fun _ _ _ => Iff.rfl
    · intro p q hp
      rw [hG]
      exact ⟨fun h => h.elim (fun h => absurd hp (dj p (ia.2.1 _ _ h).1)) id, Or.inr⟩
    · intro p q hp h
      rcases (hG p q).mp h with h | h
      · exact absurd hp (dj p (ia.2.1 _ _ h).1)
      · exact (ib.2.1 _ _ h).2
    · intro p hp
      rw [hL]
      exact ⟨fun h => h.elim (fun h => absurd hp (dj p (ia.2.2 _ h))) id, Or.inr⟩
  refine ⟨A, B, fun w => ?_⟩
  cases w with
  | nil => exact hE
  | cons c w =>
    constructor
    · rintro ⟨p, h1, h2, h3⟩
      rcases (hF p).mp h1 with h | h
      · exact Or.inl ⟨p, h, h2, (A w p (ia.1 _ h)).mp h3⟩
      · exact Or.inr ⟨p, h, h2, (B w p (ib.1 _ h)).mp h3⟩
    · rintro (⟨p, h1, h2, h3⟩ | ⟨p, h1, h2, h3⟩)
      · exact ⟨p, (hF p).mpr (Or.inl h1), h2, (A w p (ia.1 _ h1)).mpr h3⟩
      · exact ⟨p, (hF p).mpr (Or.inr h1), h2, (B w p (ib.1 _ h1)).mpr h3⟩
end CAT
/-! again and again -/
section ITE
variable {Ea E : Prop} {Fa La F L : Nat → Prop} {Ga G : Nat → Nat → Prop} {rd : Nat → Nat → Prop}
theorem au_i1 (hE : E) (hF : ∀ p, F p ↔ Fa p) (hG : ∀ p q, G p q ↔ Ga p q ∨ (La p ∧ Fa q)) (hL : ∀ p, L p ↔ La p) :
    ∀ w p, au_Ac G L rd w p ↔ ∃ x y, w = x ++ y ∧ au_Ac Ga La rd x p ∧ au_An E F G L rd y := by
  intro w
  induction w with
  | nil =>
    intro p
    constructor
    · intro h
      exact ⟨[], [], rfl, (hL p).mp h, hE⟩
    · rintro ⟨x, y, e, hx, hy⟩
      obtain ⟨rfl, rfl⟩ := List.append_eq_nil_iff.mp e.symm
      exact (hL p).mpr hx
  | cons c w ih =>
    intro p
    constructor
    · rintro ⟨q, h1, h2, h3⟩
      rcases (hG p q).mp h1 with h | h
      · obtain ⟨x, y, e, hx, hy⟩ := (ih q).mp h3
        exact ⟨c :: x, y, by rw [e]; rfl, ⟨q, h, h2, hx⟩, hy⟩
      · exact ⟨[], c :: w, rfl, h.1, q, (hF q).mpr h.2, h2, h3⟩
    · rintro ⟨x, y, e, hx, hy⟩
      cases x with
      | nil =>
        cases (show c :: w = y from e)
        obtain ⟨q, h1, h2, h3⟩ := hy
        exact ⟨q, (hG p q).mpr (Or.inr ⟨hx, (hF q).mp h1⟩), h2, h3⟩
      | cons d x =>
        have e' : c = d ∧ w = x ++ y := List.cons.inj e
        obtain ⟨rfl, e'⟩ := e'
        obtain ⟨q, h1, h2, h3⟩ := hx
        exact ⟨q, (hG p q).mpr (Or.inl h1), h2, (ih q).mpr ⟨x, y, e', h3, hy⟩⟩
theorem au_i2 (hE : E) (hEa : ¬ Ea) (hF : ∀ p, F p ↔ Fa p) (hG : ∀ p q, G p q ↔ Ga p q ∨ (La p ∧ Fa q)) (hL : ∀ p, L p ↔ La p) (w : List Nat) :
    au_An E F G L rd w ↔ w = [] ∨ wo_Sp (au_An Ea Fa Ga La rd) (au_An E F G L rd) w := by
  rw [wo_SpE]
  cases w with
  | nil => exact ⟨fun _ => Or.inl rfl, fun _ => hE⟩
  | cons c w =>
    constructor
    · rintro ⟨p, h1, h2, h3⟩
      obtain ⟨x, y, e, hx, hy⟩ := (au_i1 hE hF hG hL w p).mp h3
      exact Or.inr ⟨c :: x, y, by rw [e]; rfl, ⟨p, (hF p).mp h1, h2, hx⟩, hy⟩
    · rintro (h | ⟨x, y, e, hx, hy⟩)
      · exact nomatch h
      · cases x with
        | nil => exact absurd hx hEa
        | cons d x =>
          have e' : c = d ∧ w = x ++ y := List.cons.inj e
          obtain ⟨rfl, e'⟩ := e'
          obtain ⟨q, h1, h2, h3⟩ := hx
          exact ⟨q, (hF q).mpr h1, h2, (au_i1 hE hF hG hL w q).mpr ⟨x, y, e', h3, hy⟩⟩
end ITE
end AU
end
section
section PD
/-! two runs over one word: pd_D w d p q: from p and q both reach an end over w, and differ (d: they differ already) -/
def pd_D (G J : Nat → Nat → Prop) (L : Nat → Prop) (rd : Nat → Nat → Prop) : List Nat → Bool → Nat → Nat → Prop
  | [], d, p, q => d = true ∧ L p ∧ L q
  | c :: w, d, p, q => ∃ p' q', rd p' c ∧ rd q' c ∧ ((G p p' ∧ G q q' ∧ pd_D G J L rd w d p' q') ∨ (J p p' ∧ J q q' ∧ pd_D G J L rd w d p' q') ∨
      (G p p' ∧ J q q' ∧ pd_D G J L rd w true p' q') ∨ (J p p' ∧ G q q' ∧ pd_D G J L rd w true p' q'))
/-- some word of 1 .. n letters has two runs that differ -/
def pd_Cl (lo hi : Nat → Prop) (G J : Nat → Nat → Prop) (L : Nat → Prop) (rd : Nat → Nat → Prop) (n : Nat) : Prop :=
  ∃ c w, w.length + 1 ≤ n ∧ ∃ p q, rd p c ∧ rd q c ∧ ((((lo p ∧ lo q) ∨ (hi p ∧ hi q)) ∧ pd_D G J L rd w false p q) ∨
    (((lo p ∧ hi q) ∨ (hi p ∧ lo q)) ∧ pd_D G J L rd w true p q))
theorem pd_t {G J H : Nat → Nat → Prop} {L : Nat → Prop} {rd : Nat → Nat → Prop} (hH : ∀ p q, H p q ↔ G p q ∨ J p q) :
    ∀ w p q, pd_D G J L rd w true p q ↔ au_Ac H L rd w p ∧ au_Ac H L rd w q := by
  intro w
  induction w with
  | nil => intro p q; exact ⟨fun h => h.2, fun h => ⟨rfl, h⟩⟩
  | cons c w ih =>
    intro p q
    constructor
    · rintro ⟨p', q', h1, h2, (h | h | h | h)⟩
      · have := (ih _ _).mp h.2.2
        exact ⟨⟨p', (hH _ _).mpr (Or.inl h.1), h1, this.1⟩, q', (hH _ _).mpr (Or.inl h.2.1), h2, this.2⟩
      · have := (ih _ _).mp h.2.2
        exact ⟨⟨p', (hH _ _).mpr (Or.inr h.1), h1, this.1⟩, q', (hH _ _).mpr (Or.inr h.2.1), h2, this.2⟩
      · have := (ih _ _).mp h.2.2
        exact ⟨⟨p', (hH _ _).mpr (Or.inl h.1), h1, this.1⟩, q', (hH _ _).mpr (Or.inr h.2.1), h2, this.2⟩
      · have := (ih _ _).mp h.2.2
        exact ⟨⟨p', (hH _ _).mpr (Or.inr h.1), h1, this.1⟩, q', (hH _ _).mpr (Or.inl h.2.1), h2, this.2⟩
    · rintro ⟨⟨p', a1, a2, a3⟩, q', b1, b2, b3⟩
      have hd := (ih p' q').mpr ⟨a3, b3⟩
      refine ⟨p', q', a2, b2, ?_⟩
      rcases (hH _ _).mp a1 with a1 | a1 <;> rcases (hH _ _).mp b1 with b1 | b1
      · exact Or.inl ⟨a1, b1, hd⟩
      · exact Or.inr (Or.inr (Or.inl ⟨a1, b1, hd⟩))
      · exact Or.inr (Or.inr (Or.inr ⟨a1, b1, hd⟩))
      · exact Or.inr (Or.inl ⟨a1, b1, hd⟩)
section CAT
variable {Da Db : Nat → Prop} {Ea Eb : Prop} {Fa Fb La Lb F L lo hi : Nat → Prop} {Ga Gb G J H : Nat → Nat → Prop} {rd : Nat → Nat → Prop} {E : Prop}
theorem pd_bb (dj : ∀ p, Da p → ¬ Db p) (ia : au_In Da Fa Ga La) (ib : au_In Db Fb Gb Lb)
    (hG : ∀ p q, G p q ↔ Ga p q ∨ Gb p q) (hJ : ∀ p q, J p q ↔ La p ∧ Fb q) :
    ∀ w p q, Db p → Db q → ¬ pd_D G J L rd w false p q := by
  intro w
  induction w with
  | nil => intro p q _ _ h; exact absurd h.1 (by decide)
  | cons c w ih =>
    rintro p q hp hq ⟨p', q', _, _, h⟩
    have nj : ∀ r s, Db r → ¬ J r s := fun r s hr h => dj r (ia.2.2 _ ((hJ r s).mp h).1) hr
    have gb : ∀ r s, Db r → G r s → Db s := by
      intro r s hr h
      rcases (hG r s).mp h with h | h
      · exact absurd hr (dj r (ia.2.1 _ _ h).1)
      · exact (ib.2.1 _ _ h).2
    rcases h with h | h | h | h
    · exact ih p' q' (gb _ _ hp h.1) (gb _ _ hq h.2.1) h.2.2
    · exact nj _ _ hp h.1
    · exact nj _ _ hq h.2.1
    · exact nj _ _ hp h.1
theorem pd_ab (dj : ∀ p, Da p → ¬ Db p) (ia : au_In Da Fa Ga La) (ib : au_In Db Fb Gb Lb)
    (hG : ∀ p q, G p q ↔ Ga p q ∨ Gb p q) (hJ : ∀ p q, J p q ↔ La p ∧ Fb q) (hL : ∀ p, L p ↔ Lb p ∨ (Eb ∧ La p)) :
    ∀ w p q, Da p → Da q → (pd_D G J L rd w false p q ↔ ∃ x y x' y', w = x ++ y ∧ w = x' ++ y' ∧ x.length ≠ x'.length ∧
      (au_Ac Ga La rd x p ∧ au_An Eb Fb Gb Lb rd y) ∧ au_Ac Ga La rd x' q ∧ au_An Eb Fb Gb Lb rd y') := by
  have hH : ∀ p q, (G p q ∨ J p q) ↔ Ga p q ∨ Gb p q ∨ (La p ∧ Fb q) := by
    intro p q
    rw [hG, hJ, or_assoc]
  have T := @pd_t G J (fun p q => G p q ∨ J p q) L rd (fun _ _ => Iff.rfl)
  have C1 := @au_c1 Da Db Eb Fa Fb La Lb L Ga Gb (fun p q => G p q ∨ J p q) rd dj ia ib hH hL
  have C2 := @au_c2 Da Db Eb Fa Fb La Lb L Ga Gb (fun p q => G p q ∨ J p q) rd dj ia ib hH hL
  have ga : ∀ r s, Da r → G r s → Ga r s := by
    intro r s hr h
    rcases (hG r s).mp h with h | h
    · exact h
    · exact absurd (ib.2.1 _ _ h).1 (dj r hr)
  intro w
  induction w with
  | nil =>
    intro p q _ _
    constructor
    · intro h; exact absurd h.1 (by decide)
    · rintro ⟨x, y, x', y', e, e', hn, _⟩
      obtain ⟨rfl, rfl⟩ := List.append_eq_nil_iff.mp e.symm
      obtain ⟨rfl, rfl⟩ := List.append_eq_nil_iff.mp e'.symm
      exact absurd rfl hn
  | cons c w ih =>
    intro p q hp hq
    constructor
    · rintro ⟨p', q', r1, r2, (h | h | h | h)⟩
      · have g1 := ga _ _ hp h.1
        have g2 := ga _ _ hq h.2.1
        obtain ⟨x, y, x', y', e, e', hn, ⟨a1, a2⟩, b1, b2⟩ := (ih p' q' (ia.2.1 _ _ g1).2 (ia.2.1 _ _ g2).2).mp h.2.2
        exact ⟨c :: x, y, c :: x', y', by rw [e]; rfl, by rw [e']; rfl, by simpa using hn, ⟨⟨p', g1, r1, a1⟩, a2⟩, ⟨q', g2, r2, b1⟩, b2⟩
      · exact absurd h.2.2 (pd_bb dj ia ib hG hJ w p' q' (ib.1 _ ((hJ _ _).mp h.1).2) (ib.1 _ ((hJ _ _).mp h.2.1).2))
      · have g1 := ga _ _ hp h.1
        have j2 := (hJ _ _).mp h.2.1
        have ⟨t1, t2⟩ := (T w p' q').mp h.2.2
        obtain ⟨x, y, e, a1, a2⟩ := (C2 w p' (ia.2.1 _ _ g1).2).mp t1
        have b := (C1 w q' (ib.1 _ j2.2)).mp t2
        exact ⟨c :: x, y, [], c :: w, by rw [e]; rfl, rfl, by simp, ⟨⟨p', g1, r1, a1⟩, a2⟩, j2.1, q', j2.2, r2, b⟩
      · have g2 := ga _ _ hq h.2.1
        have j1 := (hJ _ _).mp h.1
        have ⟨t1, t2⟩ := (T w p' q').mp h.2.2
        obtain ⟨x, y, e, a1, a2⟩ := (C2 w q' (ia.2.1 _ _ g2).2).mp t2
        have b := (C1 w p' (ib.1 _ j1.2)).mp t1
        exact ⟨[], c :: w, c :: x, y, rfl, by rw [e]; rfl, by simp, ⟨j1.1, p', j1.2, r1, b⟩, ⟨q', g2, r2, a1⟩, a2⟩
    · rintro ⟨x, y, x', y', e, e', hn, ⟨a1, a2⟩, b1, b2⟩
      cases x with
      | nil =>
        cases (show c :: w = y from e)
        cases x' with
        | nil => exact absurd rfl hn
        | cons d x' =>
          replace e' : c = d ∧ w = x' ++ y' := List.cons.inj e'; obtain ⟨rfl, e'⟩ := e'
          obtain ⟨p', f1, r1, a3⟩ := a2
          obtain ⟨q', g2, r2, b3⟩ := b1
          refine ⟨p', q', r1, r2, Or.inr (Or.inr (Or.inr ⟨(hJ _ _).mpr ⟨a1, f1⟩, (hG _ _).mpr (Or.inl g2), (T w p' q').mpr ⟨?_, ?_⟩⟩))⟩
          · exact (C1 w p' (ib.1 _ f1)).mpr a3
          · exact (C2 w q' (ia.2.1 _ _ g2).2).mpr ⟨x', y', e', b3, b2⟩
      | cons d x =>
        replace e : c = d ∧ w = x ++ y := List.cons.inj e; obtain ⟨rfl, e⟩ := e
        obtain ⟨p', g1, r1, a3⟩ := a1
        cases x' with
        | nil =>
          cases (show c :: w = y' from e')
          obtain ⟨q', f2, r2, b3⟩ := b2
          refine ⟨p', q', r1, r2, Or.inr (Or.inr (Or.inl ⟨(hG _ _).mpr (Or.inl g1), (hJ _ _).mpr ⟨b1, f2⟩, (T w p' q').mpr ⟨?_, ?_⟩⟩))⟩
          · exact (C2 w p' (ia.2.1 _ _ g1).2).mpr ⟨x, y, e, a3, a2⟩
          · exact (C1 w q' (ib.1 _ f2)).mpr b3
        | cons d' x' =>
          replace e' : c = d' ∧ w = x' ++ y' := List.cons.inj e'; obtain ⟨rfl, e'⟩ := e'
          obtain ⟨q', g2, r2, b3⟩ := b1
          exact ⟨p', q', r1, r2, Or.inl ⟨(hG _ _).mpr (Or.inl g1), (hG _ _).mpr (Or.inl g2),
            (ih p' q' (ia.2.1 _ _ g1).2 (ia.2.1 _ _ g2).2).mpr ⟨x, y, x', y', e, e', by simpa using hn, ⟨a3, a2⟩, b3, b2⟩⟩⟩
theorem pd_cat (dj : ∀ p, Da p → ¬ Db p) (ia : au_In Da Fa Ga La) (ib : au_In Db Fb Gb Lb)
    (hG : ∀ p q, G p q ↔ Ga p q ∨ Gb p q) (hJ : ∀ p q, J p q ↔ La p ∧ Fb q) (hL : ∀ p, L p ↔ Lb p ∨ (Eb ∧ La p))
    (hlo : ∀ p, lo p ↔ Fa p) (hhi : ∀ p, hi p ↔ Ea ∧ Fb p) (n : Nat) :
    pd_Cl lo hi G J L rd n ↔ ∃ w, w.length ≤ n ∧ wo_Am (au_An Ea Fa Ga La rd) (au_An Eb Fb Gb Lb rd) w := by
  have hH : ∀ p q, (G p q ∨ J p q) ↔ Ga p q ∨ Gb p q ∨ (La p ∧ Fb q) := by
    intro p q
    rw [hG, hJ, or_assoc]
  have T := @pd_t G J (fun p q => G p q ∨ J p q) L rd (fun _ _ => Iff.rfl)
  have C1 := @au_c1 Da Db Eb Fa Fb La Lb L Ga Gb (fun p q => G p q ∨ J p q) rd dj ia ib hH hL
  have C2 := @au_c2 Da Db Eb Fa Fb La Lb L Ga Gb (fun p q => G p q ∨ J p q) rd dj ia ib hH hL
  constructor
  · rintro ⟨c, w, hl, p, q, r1, r2, (⟨(⟨h1, h2⟩ | ⟨h1, h2⟩), hd⟩ | ⟨(⟨h1, h2⟩ | ⟨h1, h2⟩), hd⟩)⟩
    · have f1 := (hlo _).mp h1
      have f2 := (hlo _).mp h2
      obtain ⟨x, y, x', y', e, e', hn, ⟨a1, a2⟩, b1, b2⟩ := (pd_ab dj ia ib hG hJ hL w p q (ia.1 _ f1) (ia.1 _ f2)).mp hd
      exact ⟨c :: w, hl, wo_AmE.mpr ⟨c :: x, y, c :: x', y', by rw [e]; rfl, by rw [e']; rfl, by simpa using hn, ⟨⟨p, f1, r1, a1⟩, a2⟩, ⟨q, f2, r2, b1⟩, b2⟩⟩
    · have f1 := (hhi _).mp h1
      have f2 := (hhi _).mp h2
      exact absurd hd (pd_bb dj ia ib hG hJ w p q (ib.1 _ f1.2) (ib.1 _ f2.2))
    · have f1 := (hlo _).mp h1
      have f2 := (hhi _).mp h2
      have ⟨t1, t2⟩ := (T w p q).mp hd
      obtain ⟨x, y, e, a1, a2⟩ := (C2 w p (ia.1 _ f1)).mp t1
      have b := (C1 w q (ib.1 _ f2.2)).mp t2
      exact ⟨c :: w, hl, wo_AmE.mpr ⟨c :: x, y, [], c :: w, by rw [e]; rfl, rfl, by simp, ⟨⟨p, f1, r1, a1⟩, a2⟩, f2.1, q, f2.2, r2, b⟩⟩
    · have f1 := (hhi _).mp h1
      have f2 := (hlo _).mp h2
      have ⟨t1, t2⟩ := (T w p q).mp hd
      obtain ⟨x, y, e, a1, a2⟩ := (C2 w q (ia.1 _ f2)).mp t2
      have b := (C1 w p (ib.1 _ f1.2)).mp t1
      exact ⟨c :: w, hl, wo_AmE.mpr ⟨[], c :: w, c :: x, y, rfl, by rw [e]; rfl, by simp, ⟨f1.1, p, f1.2, r1, b⟩, ⟨q, f2, r2, a1⟩, a2⟩⟩
  · rintro ⟨w, hl, h⟩
    obtain ⟨x, y, x', y', e, e', hn, ⟨a1, a2⟩, b1, b2⟩ := wo_AmE.mp h
    cases x with
    | nil =>
      cases x' with
      | nil => exact absurd rfl hn
      | cons d x' =>
        cases w with
        | nil => exact nomatch e'
        | cons c w =>
          cases (show c :: w = y from e)
          replace e' : c = d ∧ w = x' ++ y' := List.cons.inj e'; obtain ⟨rfl, e'⟩ := e'
          obtain ⟨p, f1, r1, a3⟩ := a2
          obtain ⟨q, f2, r2, b3⟩ := b1
          exact ⟨c, w, hl, p, q, r1, r2, Or.inr ⟨Or.inr ⟨(hhi _).mpr ⟨a1, f1⟩, (hlo _).mpr f2⟩, (T w p q).mpr
            ⟨(C1 w p (ib.1 _ f1)).mpr a3, (C2 w q (ia.1 _ f2)).mpr ⟨x', y', e', b3, b2⟩⟩⟩⟩
    | cons d x =>
      cases w with
      | nil => exact nomatch e
      | cons c w =>
        replace e : c = d ∧ w = x ++ y := List.cons.inj e; obtain ⟨rfl, e⟩ := e
        obtain ⟨p, f1, r1, a3⟩ := a1
        cases x' with
        | nil =>
          cases (show c :: w = y' from e')
          obtain ⟨q, f2, r2, b3⟩ := b2
          exact ⟨c, w, hl, p, q, r1, r2, Or.inr ⟨Or.inl ⟨(hlo _).mpr f1, (hhi _).mpr ⟨b1, f2⟩⟩, (T w p q).mpr
            ⟨(C2 w p (ia.1 _ f1)).mpr ⟨x, y, e, a3, a2⟩, (C1 w q (ib.1 _ f2)).mpr b3⟩⟩⟩
        | cons d' x' =>
          replace e' : c = d' ∧ w = x' ++ y' := List.cons.inj e'; obtain ⟨rfl, e'⟩ := e'
          obtain ⟨q, f2, r2, b3⟩ := b1
          exact ⟨c, w, hl, p, q, r1, r2, Or.inl ⟨Or.inl ⟨(hlo _).mpr f1, (hlo _).mpr f2⟩,
            (pd_ab dj ia ib hG hJ hL w p q (ia.1 _ f1) (ia.1 _ f2)).mpr ⟨x, y, x', y', e, e', by simpa using hn, ⟨a3, a2⟩, b3, b2⟩⟩⟩
theorem pd_f0 (hJ : ∀ p q, ¬ J p q) : ∀ w p q, ¬ pd_D G J L rd w false p q := by
  intro w
  induction w with
  | nil => intro p q h; exact absurd h.1 (by decide)
  | cons c w ih =>
    rintro p q ⟨p', q', _, _, h⟩
    rcases h with h | h | h | h
    · exact ih p' q' h.2.2
    · exact hJ _ _ h.1
    · exact hJ _ _ h.2.1
    · exact hJ _ _ h.1
theorem pd_uni (dj : ∀ p, Da p → ¬ Db p) (ia : au_In Da Fa Ga La) (ib : au_In Db Fb Gb Lb)
    (hG : ∀ p q, G p q ↔ Ga p q ∨ Gb p q) (hJ : ∀ p q, ¬ J p q) (hL : ∀ p, L p ↔ La p ∨ Lb p)
    (hlo : ∀ p, lo p ↔ Fa p) (hhi : ∀ p, hi p ↔ Fb p) (n : Nat) :
    pd_Cl lo hi G J L rd n ↔ ∃ w, w ≠ [] ∧ w.length ≤ n ∧ au_An Ea Fa Ga La rd w ∧ au_An Eb Fb Gb Lb rd w := by
  have T := @pd_t G J G L rd (fun p q => ⟨Or.inl, fun h => h.elim id fun h => absurd h (hJ p q)⟩)
  have ⟨A, B, _⟩ := @au_u Da Db Ea Eb Fa Fb La Lb (fun p => Fa p ∨ Fb p) L Ga Gb G rd (Ea ∨ Eb) dj ia ib hG hL (fun _ => Iff.rfl) Iff.rfl
  constructor
  · rintro ⟨c, w, hl, p, q, r1, r2, (⟨_, hd⟩ | ⟨(⟨h1, h2⟩ | ⟨h1, h2⟩), hd⟩)⟩
    · exact absurd hd (pd_f0 hJ w p q)
    · have f1 := (hlo _).mp h1
      have f2 := (hhi _).mp h2
      have ⟨t1, t2⟩ := (T w p q).mp hd
      exact ⟨c :: w, by simp, hl, ⟨p, f1, r1, (A w p (ia.1 _ f1)).mp t1⟩, q, f2, r2, (B w q (ib.1 _ f2)).mp t2⟩
    · have f1 := (hhi _).mp h1
      have f2 := (hlo _).mp h2
      have ⟨t1, t2⟩ := (T w p q).mp hd
      exact ⟨c :: w, by simp, hl, ⟨q, f2, r2, (A w q (ia.1 _ f2)).mp t2⟩, p, f1, r1, (B w p (ib.1 _ f1)).mp t1⟩
  · rintro ⟨w, hw, hl, ha, hb⟩
    cases w with
    | nil => exact absurd rfl hw
    | cons c w =>
      obtain ⟨p, f1, r1, a⟩ := ha
      obtain ⟨q, f2, r2, b⟩ := hb
      exact ⟨c, w, hl, p, q, r1, r2, Or.inr ⟨Or.inl ⟨(hlo _).mpr f1, (hhi _).mpr f2⟩, (T w p q).mpr ⟨(A w p (ia.1 _ f1)).mpr a, (B w q (ib.1 _ f2)).mpr b⟩⟩⟩
end CAT
section ITE
variable {Ea E : Prop} {Fa La F L lo hi : Nat → Prop} {Ga G G' J : Nat → Nat → Prop} {rd : Nat → Nat → Prop}
theorem pd_i1 (hE : E) (hF : ∀ p, F p ↔ Fa p) (hG' : ∀ p q, G' p q ↔ Ga p q ∨ (La p ∧ Fa q)) (hL : ∀ p, L p ↔ La p)
    (hG : ∀ p q, G p q ↔ Ga p q) (hJ : ∀ p q, J p q ↔ La p ∧ Fa q) : ∀ w p q, pd_D G J L rd w false p q →
      (∃ x y x' y', w = x ++ y ∧ w = x' ++ y' ∧ x.length ≠ x'.length ∧ (au_Ac Ga La rd x p ∧ au_An E F G' L rd y) ∧ au_Ac Ga La rd x' q ∧ au_An E F G' L rd y') ∨
      (∃ u v, w = u ++ v ∧ wo_Am (au_An Ea Fa Ga La rd) (au_An E F G' L rd) v) := by
  have T := @pd_t G J G' L rd (fun p q => by rw [hG', hG, hJ])
  have I1 := @au_i1 E Fa La F L Ga G' rd hE hF hG' hL
  intro w
  induction w with
  | nil => intro p q h; exact absurd h.1 (by decide)
  | cons c w ih =>
    rintro p q ⟨p', q', r1, r2, (h | h | h | h)⟩
    · have g1 := (hG _ _).mp h.1
      have g2 := (hG _ _).mp h.2.1
      rcases ih p' q' h.2.2 with ⟨x, y, x', y', e, e', hn, ⟨a1, a2⟩, b1, b2⟩ | ⟨u, v, e, h⟩
      · exact Or.inl ⟨c :: x, y, c :: x', y', by rw [e]; rfl, by rw [e']; rfl, by simpa using hn, ⟨⟨p', g1, r1, a1⟩, a2⟩, ⟨q', g2, r2, b1⟩, b2⟩
      · exact Or.inr ⟨c :: u, v, by rw [e]; rfl, h⟩
    · have j1 := (hJ _ _).mp h.1
      have j2 := (hJ _ _).mp h.2.1
      rcases ih p' q' h.2.2 with ⟨x, y, x', y', e, e', hn, ⟨a1, a2⟩, b1, b2⟩ | ⟨u, v, e, h⟩
      · exact Or.inr ⟨[], c :: w, rfl, wo_AmE.mpr ⟨c :: x, y, c :: x', y', by rw [e]; rfl, by rw [e']; rfl, by simpa using hn, ⟨⟨p', j1.2, r1, a1⟩, a2⟩, ⟨q', j2.2, r2, b1⟩, b2⟩⟩
      · exact Or.inr ⟨c :: u, v, by rw [e]; rfl, h⟩
    · have g1 := (hG _ _).mp h.1
      have j2 := (hJ _ _).mp h.2.1
      have ⟨t1, t2⟩ := (T w p' q').mp h.2.2
      obtain ⟨x, y, e, a1, a2⟩ := (I1 w p').mp t1
      exact Or.inl ⟨c :: x, y, [], c :: w, by rw [e]; rfl, rfl, by simp, ⟨⟨p', g1, r1, a1⟩, a2⟩, j2.1, q', (hF _).mpr j2.2, r2, t2⟩
    · have j1 := (hJ _ _).mp h.1
      have g2 := (hG _ _).mp h.2.1
      have ⟨t1, t2⟩ := (T w p' q').mp h.2.2
      obtain ⟨x, y, e, a1, a2⟩ := (I1 w q').mp t2
      exact Or.inl ⟨[], c :: w, c :: x, y, rfl, by rw [e]; rfl, by simp, ⟨j1.1, p', (hF _).mpr j1.2, r1, t1⟩, ⟨q', g2, r2, a1⟩, a2⟩
theorem pd_i2 (hE : E) (hF : ∀ p, F p ↔ Fa p) (hG' : ∀ p q, G' p q ↔ Ga p q ∨ (La p ∧ Fa q)) (hL : ∀ p, L p ↔ La p)
    (hG : ∀ p q, G p q ↔ Ga p q) (hJ : ∀ p q, J p q ↔ La p ∧ Fa q) : ∀ w p q,
      (∃ x y x' y', w = x ++ y ∧ w = x' ++ y' ∧ x.length ≠ x'.length ∧ (au_Ac Ga La rd x p ∧ au_An E F G' L rd y) ∧ au_Ac Ga La rd x' q ∧ au_An E F G' L rd y') →
      pd_D G J L rd w false p q := by
  have T := @pd_t G J G' L rd (fun p q => by rw [hG', hG, hJ])
  have I1 := @au_i1 E Fa La F L Ga G' rd hE hF hG' hL
  intro w
  induction w with
  | nil =>
    rintro p q ⟨x, y, x', y', e, e', hn, _⟩
    obtain ⟨rfl, rfl⟩ := List.append_eq_nil_iff.mp e.symm
    obtain ⟨rfl, rfl⟩ := List.append_eq_nil_iff.mp e'.symm
    exact absurd rfl hn
  | cons c w ih =>
    rintro p q ⟨x, y, x', y', e, e', hn, ⟨a1, a2⟩, b1, b2⟩
    cases x with
    | nil =>
      cases (show c :: w = y from e)
      cases x' with
      | nil => exact absurd rfl hn
      | cons d x' =>
        replace e' : c = d ∧ w = x' ++ y' := List.cons.inj e'; obtain ⟨rfl, e'⟩ := e'
        obtain ⟨p', f1, r1, a3⟩ := a2
        obtain ⟨q', g2, r2, b3⟩ := b1
        exact ⟨p', q', r1, r2, Or.inr (Or.inr (Or.inr ⟨(hJ _ _).mpr ⟨a1, (hF _).mp f1⟩, (hG _ _).mpr g2, (T w p' q').mpr ⟨a3, (I1 w q').mpr ⟨x', y', e', b3, b2⟩⟩⟩))⟩
    | cons d x =>
      replace e : c = d ∧ w = x ++ y := List.cons.inj e; obtain ⟨rfl, e⟩ := e
      obtain ⟨p', g1, r1, a3⟩ := a1
      cases x' with
      | nil =>
        cases (show c :: w = y' from e')
        obtain ⟨q', f2, r2, b3⟩ := b2
        exact ⟨p', q', r1, r2, Or.inr (Or.inr (Or.inl ⟨(hG _ _).mpr g1, (hJ _ _).mpr ⟨b1, (hF _).mp f2⟩, (T w p' q').mpr ⟨(I1 w p').mpr ⟨x, y, e, a3, a2⟩, b3⟩⟩))⟩
      | cons d' x' =>
        replace e' : c = d' ∧ w = x' ++ y' := List.cons.inj e'; obtain ⟨rfl, e'⟩ := e'
        obtain ⟨q', g2, r2, b3⟩ := b1
        exact ⟨p', q', r1, r2, Or.inl ⟨(hG _ _).mpr g1, (hG _ _).mpr g2, ih p' q' ⟨x, y, x', y', e, e', by simpa using hn, ⟨a3, a2⟩, b3, b2⟩⟩⟩
theorem pd_ite (hE : E) (hEa : ¬ Ea) (hF : ∀ p, F p ↔ Fa p) (hG' : ∀ p q, G' p q ↔ Ga p q ∨ (La p ∧ Fa q)) (hL : ∀ p, L p ↔ La p)
    (hG : ∀ p q, G p q ↔ Ga p q) (hJ : ∀ p q, J p q ↔ La p ∧ Fa q) (hlo : ∀ p, ¬ lo p) (hhi : ∀ p, hi p ↔ Fa p) (n : Nat) :
    pd_Cl lo hi G J L rd n ↔ ∃ w, w.length ≤ n ∧ wo_Am (au_An Ea Fa Ga La rd) (au_An E F G' L rd) w := by
  constructor
  · rintro ⟨c, w, hl, p, q, r1, r2, (⟨(⟨h1, h2⟩ | ⟨h1, h2⟩), hd⟩ | ⟨(⟨h1, h2⟩ | ⟨h1, h2⟩), hd⟩)⟩
    · exact absurd h1 (hlo _)
    · have f1 := (hhi _).mp h1
      have f2 := (hhi _).mp h2
      rcases pd_i1 (Ea := Ea) hE hF hG' hL hG hJ w p q hd with ⟨x, y, x', y', e, e', hn, ⟨a1, a2⟩, b1, b2⟩ | ⟨u, v, e, h⟩
      · exact ⟨c :: w, hl, wo_AmE.mpr ⟨c :: x, y, c :: x', y', by rw [e]; rfl, by rw [e']; rfl, by simpa using hn, ⟨⟨p, f1, r1, a1⟩, a2⟩, ⟨q, f2, r2, b1⟩, b2⟩⟩
      · refine ⟨v, ?_, h⟩
        rw [e, List.length_append] at hl
        omega
    · exact absurd h1 (hlo _)
    · exact absurd h2 (hlo _)
  · rintro ⟨w, hl, h⟩
    obtain ⟨x, y, x', y', e, e', hn, ⟨a1, a2⟩, b1, b2⟩ := wo_AmE.mp h
    cases x with
    | nil => exact absurd a1 hEa
    | cons d x =>
      cases x' with
      | nil => exact absurd b1 hEa
      | cons d' x' =>
        cases w with
        | nil => exact nomatch e
        | cons c w =>
          replace e : c = d ∧ w = x ++ y := List.cons.inj e; obtain ⟨rfl, e⟩ := e
          replace e' : c = d' ∧ w = x' ++ y' := List.cons.inj e'; obtain ⟨rfl, e'⟩ := e'
          obtain ⟨p, f1, r1, a3⟩ := a1
          obtain ⟨q, f2, r2, b3⟩ := b1
          exact ⟨c, w, hl, p, q, r1, r2, Or.inl ⟨Or.inr ⟨(hhi _).mpr f1, (hhi _).mpr f2⟩,
            pd_i2 hE hF hG' hL hG hJ w p q ⟨x, y, x', y', e, e', by simpa using hn, ⟨a3, a2⟩, b3, b2⟩⟩⟩
end ITE
end PD
end
section
section BI
/-! the first rows are of kit/rows/BITS -/
def bt (x : Int32) (i : Nat) : Bool := x.toBitVec.getLsbD i
theorem b_ext {x y : Int32} (h : ∀ i, i < 32 → bt x i = bt y i) : x = y := Int32.toBitVec_inj.mp (BitVec.eq_of_getLsbD_eq (fun i hi => h i hi))
theorem b_or (x y : Int32) (i : Nat) : bt (x ||| y) i = (bt x i || bt y i) := by unfold bt; rw [Int32.toBitVec_or, BitVec.getLsbD_or]
theorem b_and (x y : Int32) (i : Nat) : bt (x &&& y) i = (bt x i && bt y i) := by unfold bt; rw [Int32.toBitVec_and, BitVec.getLsbD_and]
theorem b_xor (x y : Int32) (i : Nat) : bt (x ^^^ y) i = (bt x i ^^ bt y i) := by unfold bt; rw [Int32.toBitVec_xor, BitVec.getLsbD_xor]
theorem b_big {x : Int32} {i : Nat} (h : 32 ≤ i) : bt x i = false := BitVec.getLsbD_of_ge _ _ h
theorem b_m1 : ∀ i, i < 32 → bt (-1) i = true := by decide +kernel
theorem b_0 (i : Nat) : bt 0 i = false := BitVec.getLsbD_zero
theorem s_l : ∀ n, n < 32 → ((nI n &&& 31).toBitVec.smod 32).toNat = n := by decide +kernel
theorem b_shl (n : Nat) (hn : n < 32) (x : Int32) {i : Nat} (hi : i < 32) : bt (x <<< (nI n &&& 31)) i = (decide (n ≤ i) && bt x (i - n)) := by
  unfold bt
  rw [Int32.toBitVec_shiftLeft]
  show (x.toBitVec <<< ((nI n &&& 31).toBitVec.smod 32).toNat).getLsbD i = _
  rw [s_l n hn, BitVec.getLsbD_shiftLeft]
  rcases Nat.lt_or_ge i n with h | h
  · simp [h, Nat.not_le.mpr h]
  · simp [hi, h, Nat.not_lt.mpr h]
theorem b_sshr (n : Nat) (hn : n < 32) (x : Int32) {i : Nat} (hi : i < 32) : bt (x >>> (nI n &&& 31)) i = if n + i < 32 then bt x (n + i) else bt x 31 := by
  unfold bt
  rw [Int32.toBitVec_shiftRight]
  show (x.toBitVec.sshiftRight ((nI n &&& 31).toBitVec.smod 32).toNat).getLsbD i = _
  rw [s_l n hn, BitVec.getLsbD_sshiftRight, BitVec.msb_eq_getLsbD_last]
  simp [hi]
/-! own -/
theorem bi_lt {x : Int32} {i : Nat} (h : bt x i = true) : i < 32 := by
  rcases Nat.lt_or_ge i 32 with h1 | h1
  · exact h1
  · rw [b_big h1] at h; exact absurd h (by decide)
theorem bi_1 : ∀ i, i < 32 → bt 1 i = decide (i = 0) := by decide +kernel
theorem bi_n {b : Bool} (h : ¬ b = true) : b = false := by cases b <;> simp_all
theorem bi_one (y : Int32) : (y &&& 1) = 0 ↔ bt y 0 = false := by
  constructor
  · intro h
    have := b_and y 1 0
    rw [h, b_0, bi_1 0 (by omega)] at this
    simpa using this.symm
  · intro h
    apply b_ext
    intro i hi
    rw [b_and, b_0, bi_1 i hi]
    by_cases e : i = 0
    · subst e; simp [h]
    · simp [e]
theorem bi_one1 (y : Int32) : (y &&& 1) = 1 ↔ bt y 0 = true := by
  constructor
  · intro h
    have := b_and y 1 0
    rw [h, bi_1 0 (by omega)] at this
    simpa using this.symm
  · intro h
    apply b_ext
    intro i hi
    rw [b_and, bi_1 i hi]
    by_cases e : i = 0
    · subst e; simp [h]
    · simp [e]
theorem bi_sh (x : Int32) {p : Nat} (hp : p < 32) : bt (x >>> (nI p &&& 31)) 0 = bt x p := by
  rw [b_sshr p hp x (by omega), if_pos (by omega), Nat.add_zero]
theorem bi_test (x : Int32) {p : Nat} (hp : p < 32) : ((x >>> (nI p &&& 31)) &&& 1) = 0 ↔ bt x p = false := by
  rw [bi_one, bi_sh x hp]
theorem bi_test1 (x : Int32) {p : Nat} (hp : p < 32) : ((x >>> (nI p &&& 31)) &&& 1) = 1 ↔ bt x p = true := by
  rw [bi_one1, bi_sh x hp]
theorem bi_and0 (x y : Int32) : x &&& y = 0 ↔ ∀ i, ¬ (bt x i = true ∧ bt y i = true) := by
  constructor
  · intro h i hi
    have := b_and x y i
    rw [h, b_0, hi.1, hi.2] at this
    exact absurd this (by decide)
  · intro h
    apply b_ext
    intro i _
    rw [b_and, b_0]
    have := h i
    cases h1 : bt x i <;> cases h2 : bt y i <;> simp_all
theorem bi_sh1 {n : Nat} (hn : n < 32) (i : Nat) : bt ((1 : Int32) <<< (nI n &&& 31)) i = decide (i = n) := by
  rcases Nat.lt_or_ge i 32 with hi | hi
  · rw [b_shl n hn 1 hi]
    rcases Nat.lt_or_ge i n with h | h
    · rw [decide_eq_false (by omega), decide_eq_false (by omega)]; rfl
    · rw [decide_eq_true h, bi_1 _ (by omega), Bool.true_and]
      by_cases e : i = n
      · rw [decide_eq_true e, decide_eq_true (by omega)]
      · rw [decide_eq_false e, decide_eq_false (by omega)]
  · rw [b_big hi, decide_eq_false (by omega)]
theorem bi_low0 : ∀ n, n < 12 → ∀ i, i < 32 → bt (((1 : Int32) <<< (nI n &&& 31)) - 1) i = decide (i < n) := by decide +kernel
theorem bi_low {n : Nat} (hn : n < 12) (i : Nat) : bt (((1 : Int32) <<< (nI n &&& 31)) - 1) i = decide (i < n) := by
  rcases Nat.lt_or_ge i 32 with hi | hi
  · exact bi_low0 n hn i hi
  · rw [b_big hi, decide_eq_false (by omega)]
theorem bi_not (x : Int32) {i : Nat} (hi : i < 32) : bt (x ^^^ (-1)) i = !(bt x i) := by
  rw [b_xor, b_m1 i hi, Bool.xor_true]
theorem bi_8 : ∀ m, m < 8 → ∀ i, i < 32 → 3 ≤ i → bt (nI m) i = false := by decide +kernel
theorem bi_83 {m i : Nat} (hm : m < 8) (h : bt (nI m) i = true) : i < 3 := by
  rcases Nat.lt_or_ge i 3 with h1 | h1
  · exact h1
  · rw [bi_8 m hm i (bi_lt h) h1] at h; exact absurd h (by decide)
theorem bi_8s : ∀ c, c < 3 → ∃ m, m < 8 ∧ (1 : Int32) <<< (nI c &&& 31) = nI m := by
  intro c hc
  refine ⟨2 ^ c, ?_, ?_⟩
  · have : c = 0 ∨ c = 1 ∨ c = 2 := by omega
    rcases this with rfl | rfl | rfl <;> decide
  · have : c = 0 ∨ c = 1 ∨ c = 2 := by omega
    rcases this with rfl | rfl | rfl <;> decide +kernel
theorem bi_12 : ∀ n, n < 12 → ∀ i, i < 32 → bt ((1 : Int32) <<< (nI n &&& 31)) i = true → i < 12 := by
  intro n hn i _ h
  rw [bi_sh1 (by omega)] at h
  have := of_decide_eq_true h
  omega
/-! numbers -/
theorem nu_m (a b : Nat) : nI a * nI b = nI (a * b) := (Int32.ofNat_mul a b).symm
theorem nu_m12 (a : Nat) : nI a * 12 = nI (a * 12) := nu_m a 12
theorem nu_m6 (a : Nat) : nI a * 6 = nI (a * 6) := nu_m a 6
theorem nu_m3 (a : Nat) : nI a * 3 = nI (a * 3) := nu_m a 3
theorem nu_3m (a : Nat) : 3 * nI a = nI (3 * a) := nu_m 3 a
theorem nu_2m (a : Nat) : 2 * nI a = nI (2 * a) := nu_m 2 a
theorem nu_m1093 (a : Nat) : nI a * 1093 = nI (a * 1093) := nu_m a 1093
theorem nu_12a (a : Nat) : 12 + nI a = nI (12 + a) := nI_add 12 a
theorem nu_s {a b : Nat} (h : b ≤ a) : nI a - nI b = nI (a - b) := by
  obtain ⟨c, rfl⟩ : ∃ c, a = c + b := ⟨a - b, by omega⟩
  rw [← nI_add, Int32.add_sub_cancel, Nat.add_sub_cancel]
theorem nu_s1 {n : Nat} (h : 0 < n) : nI n - 1 = nI (n - 1) := nu_s h
theorem nu_p1 {n : Nat} (h : 0 < n) : nI n + (-1) = nI (n - 1) := by
  rw [← Int32.sub_eq_add_neg]
  exact nu_s1 h
theorem nu_0m1 : (0 : Int32) - 1 = -1 := by decide
theorem nu_01m : nI 0 - 1 = -1 := by decide
theorem nu_div {a d : Nat} (ha : a < 2 ^ 31) (h0 : 0 < d) (hd : d < 2 ^ 31) : nI a / nI d = nI (a / d) := by
  apply Int32.toInt_inj.mp
  rw [lg_idiv_nonneg (by rw [nI_toInt ha]; omega) (by rw [nI_toInt hd]; omega), nI_toInt ha, nI_toInt hd, nI_toInt (Nat.lt_of_le_of_lt (Nat.div_le_self a d) ha)]
  first | rfl | exact (Int.natCast_ediv _ _).symm
theorem nu_d3 {a : Nat} (ha : a < 2 ^ 31) : nI a / 3 = nI (a / 3) := nu_div (d := 3) ha (by decide) (by decide)
theorem nu_d12 {a : Nat} (ha : a < 2 ^ 31) : nI a / 12 = nI (a / 12) := nu_div (d := 12) ha (by decide) (by decide)
theorem nu_n1 : (-1 : Int32) < 0 := by decide
theorem nu_n1' : ¬ (0 : Int32) ≤ -1 := by decide
theorem nu_n1'' : (-1 : Int32) ≤ 0 := by decide
theorem nu_b0 : vp_nar .boolean 0 = 0 := by decide
theorem nu_b1 : vp_nar .boolean 1 = 1 := by decide
theorem nu_us {f : Nat → Int32} {k : Nat} {x : Int32} : upd f k x k = x := if_pos rfl
theorem nu_un {f : Nat → Int32} {k j : Nat} {x : Int32} (h : j ≠ k) : upd f k x j = f j := if_neg h
theorem nu_eq0 {a : Nat} (h : a < 2 ^ 31) : nI a = 0 ↔ a = 0 := by
  rw [← nI_0, nI_eq h (by omega)]
theorem nu_le0 {a : Nat} (h : a < 2 ^ 31) : nI a ≤ 0 ↔ a = 0 := by
  rw [← nI_0, nI_leI h (by omega)]; omega
theorem nu_lt0 {a : Nat} (h : a < 2 ^ 31) : 0 < nI a ↔ 0 < a := by
  rw [← nI_0, nI_ltI (by omega) h]
end BI
end
section
section XS
variable {xl xm xc xn xd xt : Int32} {kd ag st le ll lc em fi la fo pr fr wd sz ot tN tL tH tO tP : Nat → Int32} {post : SX → Prop} {qost : Int32 → SX → Prop} {rost : Int32 → Prop}
theorem xs_cl {C : Nat} (h : C < 4096) : (nI C).toNatClampNeg = C := nI_clamp (by omega)
theorem xs_in {C N : Nat} (h : C < N) (hN : N < 65536) : vp_in (nI C) N := vp_in_nI h (by omega)
def xs_FR (a : Nat) (fo fo' : Nat → Int32) : Prop := ∀ j, (j < a * 12 ∨ a * 12 + 12 ≤ j) → fo' j = fo j
theorem xs_ix {A q : Nat} (hA : A < 24) (hq : q < 12) : (nI A * 12 + nI q).toNatClampNeg = A * 12 + q := by
  rw [nu_m12, nI_add, xs_cl (by omega)]
theorem xs_iv {A q : Nat} (hA : A < 24) (hq : q < 12) : vp_in (nI A * 12 + nI q) 288 := by
  rw [nu_m12, nI_add]
  exact xs_in (by omega) (by omega)
theorem xs_12t : (12 : Int32) ≤ nI 12 := by decide
theorem xs_12f {q : Nat} (h : q < 12) : ¬ (12 : Int32) ≤ nI q := nI_ge (b := 12) h (by omega)
theorem xs_24t : (24 : Int32) ≤ nI 24 := by decide
theorem xs_24f {q : Nat} (h : q < 24) : ¬ (24 : Int32) ≤ nI q := nI_ge (b := 24) h (by omega)
theorem xs_setLeast {C : Nat} (hC : C < 12) (p0 p1 : Int32) (h : post (xl, xm, nI C, xn, xd, xt, kd, ag, st, le, upd ll C p0, upd lc C p1, em, fi, la, fo, pr, fr, wd, sz, ot, tN, tL, tH, tO, tP)) : wpX_setLeast post (xl, xm, nI C, xn, xd, xt, kd, ag, st, le, ll, lc, em, fi, la, fo, pr, fr, wd, sz, ot, tN, tL, tH, tO, tP) p0 p1 := by
  unfold wpX_setLeast
  dsimp only
  rw [xs_cl (by omega : C < 4096)]
  exact ⟨xs_in hC (by omega), nm_e ⟨xs_in hC (by omega), nm_e h⟩⟩
theorem xs_commit {C : Nat} (hC : C < 12) (p0 p1 p2 : Int32) (h : qost 0 (xl, xm, nI (C + 1), xn, xd, xt, upd kd C p0, upd ag C p1, upd st C p2, le, ll, lc, em, fi, la, fo, pr, fr, wd, sz, ot, tN, tL, tH, tO, tP)) : wpX_commit qost (xl, xm, nI C, xn, xd, xt, kd, ag, st, le, ll, lc, em, fi, la, fo, pr, fr, wd, sz, ot, tN, tL, tH, tO, tP) p0 p1 p2 := by
  unfold wpX_commit
  dsimp only
  rw [xs_cl (by omega : C < 4096)]
  exact ⟨xs_in hC (by omega), nm_e ⟨xs_in hC (by omega), nm_e ⟨xs_in hC (by omega), nm_e (nm_r (nI_1 C) h)⟩⟩⟩
theorem xs_mk {s C : Nat} (hs : s < 2) (hC : C < 12) (h : post (xl, xm, nI C, xn, xd, xt, kd, ag, st, le, ll, lc, upd em (s * 12 + C) 0, upd fi (s * 12 + C) ((1 : Int32) <<< (nI C &&& 31)), upd la (s * 12 + C) ((1 : Int32) <<< (nI C &&& 31)), fo, pr, fr, wd, sz, ot, tN, tL, tH, tO, tP)) : wpX_makePosition post (xl, xm, nI C, xn, xd, xt, kd, ag, st, le, ll, lc, em, fi, la, fo, pr, fr, wd, sz, ot, tN, tL, tH, tO, tP) (nI s) := by
  unfold wpX_makePosition
  dsimp only
  refine nm_r (e' := nI (s * 12 + C)) (by rw [nu_m12, nI_add]) ?_
  rw [xs_cl (by omega : s * 12 + C < 4096), nu_b0]
  have hi : vp_in (nI (s * 12 + C)) 24 := xs_in (by omega) (by omega)
  exact ⟨hi, nm_e ⟨hi, nm_e ⟨hi, nm_e h⟩⟩⟩
theorem xs_blankL {A : Nat} (hA : A < 24) : ∀ (d p n : Nat) (fo : Nat → Int32), p + d = 12 → d < n →
    (∀ fo' : Nat → Int32, xs_FR A fo fo' → (∀ q, q < p → fo' (A * 12 + q) = fo (A * 12 + q)) → (∀ q, p ≤ q → q < 12 → fo' (A * 12 + q) = 0) → post (xl, xm, xc, xn, xd, xt, kd, ag, st, le, ll, lc, em, fi, la, fo', pr, fr, wd, sz, ot, tN, tL, tH, tO, tP)) →
    wX_blank_33 post (nI A) xl xm xc xn xd xt n (nI p) kd ag st le ll lc em fi la fo pr fr wd sz ot tN tL tH tO tP := by
  intro d
  induction d with
  | zero =>
    intro p n fo hp hn H
    obtain ⟨n, rfl⟩ : ∃ m, n = m + 1 := ⟨n - 1, by omega⟩
    obtain rfl : p = 12 := by omega
    exact br_t xs_12t (H fo (fun _ _ => rfl) (fun _ _ => rfl) (fun _ h1 h2 => by omega))
  | succ d ih =>
    intro p n fo hp hn H
    obtain ⟨n, rfl⟩ : ∃ m, n = m + 1 := ⟨n - 1, by omega⟩
    refine br_f (xs_12f (by omega)) ⟨xs_iv hA (by omega), fun y ey => ?_⟩
    rw [xs_ix hA (by omega)] at ey
    subst ey
    refine nm_r (nI_1 p) ?_
    refine ih (p + 1) n _ (by omega) (by omega) fun fo' h1 h2 h3 => H fo' ?_ ?_ ?_
    · intro j hj
      rw [h1 j hj, nu_un (by omega)]
    · intro q hq
      rw [h2 q (by omega), nu_un (by omega)]
    · intro q hq hq'
      rcases Nat.lt_or_ge p q with h | h
      · exact h3 q h hq'
      · obtain rfl : q = p := by omega
        rw [h2 q (by omega), nu_us]
theorem xs_blank {s C : Nat} (hs : s < 2) (hC : C < 12) (h : ∀ fo' : Nat → Int32, xs_FR (s * 12 + C) fo fo' → (∀ q, q < 12 → fo' ((s * 12 + C) * 12 + q) = 0) → post (xl, xm, nI C, xn, xd, xt, kd, ag, st, le, ll, lc, upd em (s * 12 + C) 1, upd fi (s * 12 + C) 0, upd la (s * 12 + C) 0, fo', pr, fr, wd, sz, ot, tN, tL, tH, tO, tP)) : wpX_blank post (xl, xm, nI C, xn, xd, xt, kd, ag, st, le, ll, lc, em, fi, la, fo, pr, fr, wd, sz, ot, tN, tL, tH, tO, tP) (nI s) := by
  unfold wpX_blank
  dsimp only
  refine nm_r (e' := nI (s * 12 + C)) (by rw [nu_m12, nI_add]) ?_
  rw [xs_cl (by omega : s * 12 + C < 4096), nu_b1]
  have hi : vp_in (nI (s * 12 + C)) 24 := xs_in (by omega) (by omega)
  refine ⟨hi, nm_e ⟨hi, nm_e ⟨hi, nm_e ⟨13, ?_⟩⟩⟩⟩
  exact xs_blankL (by omega) 12 0 13 fo (by omega) (by omega) fun fo' h1 _ h3 => h fo' h1 fun q hq => h3 q (by omega) hq
theorem xs_mergeL {A l r : Nat} (hA : A < 24) (hl : l < 24) (hr : r < 24) (hlA : l ≠ A) (hrA : r ≠ A) : ∀ (d p n : Nat) (fo : Nat → Int32), p + d = 12 → d < n →
    (∀ fo' : Nat → Int32, xs_FR A fo fo' → (∀ q, q < p → fo' (A * 12 + q) = fo (A * 12 + q)) → (∀ q, p ≤ q → q < 12 → fo' (A * 12 + q) = fo (l * 12 + q) ||| fo (r * 12 + q)) → post (xl, xm, xc, xn, xd, xt, kd, ag, st, le, ll, lc, em, fi, la, fo', pr, fr, wd, sz, ot, tN, tL, tH, tO, tP)) →
    wX_merge_106 post (nI A) (nI l) (nI r) xl xm xc xn xd xt n (nI p) kd ag st le ll lc em fi la fo pr fr wd sz ot tN tL tH tO tP := by
  intro d
  induction d with
  | zero =>
    intro p n fo hp hn H
    obtain ⟨n, rfl⟩ : ∃ m, n = m + 1 := ⟨n - 1, by omega⟩
    obtain rfl : p = 12 := by omega
    exact br_t xs_12t (H fo (fun _ _ => rfl) (fun _ _ => rfl) (fun _ h1 h2 => by omega))
  | succ d ih =>
    intro p n fo hp hn H
    obtain ⟨n, rfl⟩ : ∃ m, n = m + 1 := ⟨n - 1, by omega⟩
    refine br_f (xs_12f (by omega)) ⟨xs_iv hl (by omega), xs_iv hr (by omega), xs_iv hA (by omega), fun y ey => ?_⟩
    rw [xs_ix hA (by omega), xs_ix hl (by omega), xs_ix hr (by omega)] at ey
    subst ey
    refine nm_r (nI_1 p) ?_
    refine ih (p + 1) n _ (by omega) (by omega) fun fo' h1 h2 h3 => H fo' ?_ ?_ ?_
    · intro j hj
      rw [h1 j hj, nu_un (by omega)]
    · intro q hq
      rw [h2 q (by omega), nu_un (by omega)]
    · intro q hq hq'
      rcases Nat.lt_or_ge p q with h | h
      · rw [h3 q h hq', nu_un (by omega), nu_un (by omega)]
      · obtain rfl : q = p := by omega
        rw [h2 q (by omega), nu_us]
theorem xs_merge58 {A l r : Nat} {z : Int32} (hz : z = 0 ∨ z = 1) (hA : A < 24) (hl : l < 24) (hr : r < 24) (hlA : l ≠ A) (hrA : r ≠ A)
    (h : ∀ fo' : Nat → Int32, xs_FR A fo fo' → (∀ q, q < 12 → fo' (A * 12 + q) = fo (l * 12 + q) ||| fo (r * 12 + q)) → post (xl, xm, xc, xn, xd, xt, kd, ag, st, le, ll, lc, upd em A z, upd fi A (fi l ||| fi r), upd la A (la l ||| la r), fo', pr, fr, wd, sz, ot, tN, tL, tH, tO, tP)) :
    wX_merge_58 post (nI A) (nI l) (nI r) z (nI A) xl xm xc xn xd xt kd ag st le ll lc em fi la fo pr fr wd sz ot tN tL tH tO tP := by
  unfold wX_merge_58
  rw [xs_cl (by omega : A < 4096), xs_cl (by omega : l < 4096), xs_cl (by omega : r < 4096)]
  have iA : vp_in (nI A) 24 := xs_in hA (by omega)
  have il : vp_in (nI l) 24 := xs_in hl (by omega)
  have ir : vp_in (nI r) 24 := xs_in hr (by omega)
  have ez : vp_nar .boolean z = z := by rcases hz with rfl | rfl <;> decide
  rw [ez]
  refine ⟨iA, nm_e ⟨il, ir, iA, nm_e ⟨il, ir, iA, nm_e ⟨13, ?_⟩⟩⟩⟩
  exact xs_mergeL hA hl hr hlA hrA 12 0 13 fo (by omega) (by omega) fun fo' h1 _ h3 => h fo' h1 fun q hq => h3 q (by omega) hq
theorem xs_merge {s C a b : Nat} (hs : s < 2) (hC : C < 12) (ha : a < C) (hb : b < C) (ea : em (s * 12 + a) = 0 ∨ em (s * 12 + a) = 1) (eb : em (s * 12 + b) = 0 ∨ em (s * 12 + b) = 1)
    (h : ∀ (fo' : Nat → Int32) (e : Int32), (e = 0 ∨ e = 1) → (e = 1 ↔ em (s * 12 + a) = 1 ∨ em (s * 12 + b) = 1) → xs_FR (s * 12 + C) fo fo' →
      (∀ q, q < 12 → fo' ((s * 12 + C) * 12 + q) = fo ((s * 12 + a) * 12 + q) ||| fo ((s * 12 + b) * 12 + q)) →
      post (xl, xm, nI C, xn, xd, xt, kd, ag, st, le, ll, lc, upd em (s * 12 + C) e, upd fi (s * 12 + C) (fi (s * 12 + a) ||| fi (s * 12 + b)), upd la (s * 12 + C) (la (s * 12 + a) ||| la (s * 12 + b)), fo', pr, fr, wd, sz, ot, tN, tL, tH, tO, tP)) :
    wpX_merge post (xl, xm, nI C, xn, xd, xt, kd, ag, st, le, ll, lc, em, fi, la, fo, pr, fr, wd, sz, ot, tN, tL, tH, tO, tP) (nI s) (nI a) (nI b) := by
  unfold wpX_merge wX_merge_53
  dsimp only
  refine nm_r (e' := nI (s * 12 + C)) (by rw [nu_m12, nI_add]) ?_
  refine nm_r (e' := nI (s * 12 + a)) (by rw [nu_m12, nI_add]) ?_
  refine nm_r (e' := nI (s * 12 + b)) (by rw [nu_m12, nI_add]) ?_
  rw [xs_cl (by omega : s * 12 + a < 4096), xs_cl (by omega : s * 12 + b < 4096)]
  have h10 : ¬ (1 : Int32) = 0 := by decide
  have h01 : ¬ (0 : Int32) = 1 := by decide
  refine ⟨xs_in (by omega) (by omega), ?_⟩
  rcases ea with ea | ea
  · refine br_t ea ⟨xs_in (by omega) (by omega), ?_⟩
    rcases eb with eb | eb
    · refine br_t eb (xs_merge58 (Or.inl rfl) (by omega) (by omega) (by omega) (by omega) (by omega) fun fo' h1 h2 => h fo' 0 (Or.inl rfl) ?_ h1 h2)
      rw [ea, eb]; simp
    · refine br_f (by rw [eb]; exact h10) (xs_merge58 (Or.inr rfl) (by omega) (by omega) (by omega) (by omega) (by omega) fun fo' h1 h2 => h fo' 1 (Or.inr rfl) ?_ h1 h2)
      rw [ea, eb]; simp
  · refine br_f (by rw [ea]; exact h10) (xs_merge58 (Or.inr rfl) (by omega) (by omega) (by omega) (by omega) (by omega) fun fo' h1 h2 => h fo' 1 (Or.inr rfl) ?_ h1 h2)
    rw [ea]; simp
theorem xs_jump {p : Nat} (hp : p < 12) (fm t : Int32) (h : rost (if bt fm p = true then t else 0)) : wpX_jump rost (xl, xm, xc, xn, xd, xt, kd, ag, st, le, ll, lc, em, fi, la, fo, pr, fr, wd, sz, ot, tN, tL, tH, tO, tP) fm t (nI p) := by
  unfold wpX_jump
  dsimp only
  by_cases hb : bt fm p = true
  · rw [if_pos hb] at h
    exact br_f (by rw [bi_test fm (by omega), hb]; decide) h
  · rw [if_neg hb] at h
    exact br_t ((bi_test fm (by omega)).mpr (bi_n hb)) h
theorem xs_linkL {A : Nat} (hA : A < 24) (fm t : Int32) : ∀ (d p n : Nat) (fo : Nat → Int32), p + d = 12 → d < n →
    (∀ fo' : Nat → Int32, xs_FR A fo fo' → (∀ q, q < p → fo' (A * 12 + q) = fo (A * 12 + q)) → (∀ q, p ≤ q → q < 12 → fo' (A * 12 + q) = fo (A * 12 + q) ||| (if bt fm q = true then t else 0)) → post (xl, xm, xc, xn, xd, xt, kd, ag, st, le, ll, lc, em, fi, la, fo', pr, fr, wd, sz, ot, tN, tL, tH, tO, tP)) →
    wX_link_3 post (nI A) fm t xl xm xc xn xd xt n (nI p) kd ag st le ll lc em fi la fo pr fr wd sz ot tN tL tH tO tP := by
  intro d
  induction d with
  | zero =>
    intro p n fo hp hn H
    obtain ⟨n, rfl⟩ : ∃ m, n = m + 1 := ⟨n - 1, by omega⟩
    obtain rfl : p = 12 := by omega
    exact br_t xs_12t (H fo (fun _ _ => rfl) (fun _ _ => rfl) (fun _ h1 h2 => by omega))
  | succ d ih =>
    intro p n fo hp hn H
    obtain ⟨n, rfl⟩ : ∃ m, n = m + 1 := ⟨n - 1, by omega⟩
    refine br_f (xs_12f (by omega)) ⟨xs_iv hA (by omega), xs_jump (by omega) fm t ⟨xs_iv hA (by omega), fun y ey => ?_⟩⟩
    rw [xs_ix hA (by omega)] at ey
    subst ey
    refine nm_r (nI_1 p) ?_
    refine ih (p + 1) n _ (by omega) (by omega) fun fo' h1 h2 h3 => H fo' ?_ ?_ ?_
    · intro j hj
      rw [h1 j hj, nu_un (by omega)]
    · intro q hq
      rw [h2 q (by omega), nu_un (by omega)]
    · intro q hq hq'
      rcases Nat.lt_or_ge p q with h | h
      · rw [h3 q h hq', nu_un (by omega)]
      · obtain rfl : q = p := by omega
        rw [h2 q (by omega), nu_us]
theorem xs_link {A : Nat} (hA : A < 24) (fm t : Int32) (h : ∀ fo' : Nat → Int32, xs_FR A fo fo' → (∀ q, q < 12 → fo' (A * 12 + q) = fo (A * 12 + q) ||| (if bt fm q = true then t else 0)) → post (xl, xm, xc, xn, xd, xt, kd, ag, st, le, ll, lc, em, fi, la, fo', pr, fr, wd, sz, ot, tN, tL, tH, tO, tP)) :
    wpX_link post (xl, xm, xc, xn, xd, xt, kd, ag, st, le, ll, lc, em, fi, la, fo, pr, fr, wd, sz, ot, tN, tL, tH, tO, tP) (nI A) fm t :=
  ⟨13, xs_linkL hA fm t 12 0 13 fo (by omega) (by omega) fun fo' h1 _ h3 => h fo' h1 fun q hq => h3 q (by omega) hq⟩
theorem xs_readersL {set mask : Int32} : ∀ (d q n : Nat) (r : Int32), q + d = 12 → d < n →
    (∀ r' : Int32, (∀ i, bt r' i = true ↔ bt r i = true ∨ (q ≤ i ∧ i < 12 ∧ bt set i = true ∧ ¬ le i &&& mask = 0)) → rost r') →
    wX_readers_5 rost set mask xl xm xc xn xd xt kd ag st le ll lc em fi la fo pr fr wd sz ot tN tL tH tO tP n r (nI q) := by
  intro d
  induction d with
  | zero =>
    intro q n r hq hn H
    obtain ⟨n, rfl⟩ : ∃ m, n = m + 1 := ⟨n - 1, by omega⟩
    obtain rfl : q = 12 := by omega
    exact br_t xs_12t (H r fun i => ⟨Or.inl, fun h => h.elim id fun h => by omega⟩)
  | succ d ih =>
    intro q n r hq hn H
    obtain ⟨n, rfl⟩ : ∃ m, n = m + 1 := ⟨n - 1, by omega⟩
    have cl : (nI q).toNatClampNeg = q := xs_cl (by omega)
    refine br_f (xs_12f (by omega)) ?_
    by_cases hb : bt set q = true
    · refine br_f (by rw [bi_test set (by omega), hb]; decide) ⟨xs_in (by omega) (by omega), ?_⟩
      by_cases hm : le (nI q).toNatClampNeg &&& mask = 0
      · refine br_t hm (nm_r (nI_1 q) ?_)
        rw [cl] at hm
        refine ih (q + 1) n r (by omega) (by omega) fun r' hr => H r' fun i => ?_
        rw [hr i]
        refine or_congr Iff.rfl ⟨fun h => ⟨by omega, h.2⟩, fun h => ⟨?_, h.2⟩⟩
        rcases Nat.lt_or_ge q i with h1 | h1
        · exact h1
        · obtain rfl : i = q := by omega
          exact absurd hm h.2.2.2
      · refine br_f hm (nm_e (nm_r (nI_1 q) ?_))
        rw [cl] at hm
        refine ih (q + 1) n _ (by omega) (by omega) fun r' hr => H r' fun i => ?_
        rw [hr i, b_or, bi_sh1 (by omega), Bool.or_eq_true, decide_eq_true_eq]
        constructor
        · rintro ((h | rfl) | h)
          · exact Or.inl h
          · exact Or.inr ⟨by omega, by omega, hb, hm⟩
          · exact Or.inr ⟨by omega, h.2⟩
        · rintro (h | h)
          · exact Or.inl (Or.inl h)
          · by_cases e : i = q
            · exact Or.inl (Or.inr e)
            · exact Or.inr ⟨by omega, h.2⟩
    · refine br_t ((bi_test set (by omega)).mpr (bi_n hb)) (nm_r (nI_1 q) ?_)
      refine ih (q + 1) n r (by omega) (by omega) fun r' hr => H r' fun i => ?_
      rw [hr i]
      refine or_congr Iff.rfl ⟨fun h => ⟨by omega, h.2⟩, fun h => ⟨?_, h.2⟩⟩
      rcases Nat.lt_or_ge q i with h1 | h1
      · exact h1
      · obtain rfl : i = q := by omega
        exact absurd h.2.2.1 hb
theorem xs_readers (set mask : Int32) (H : ∀ r : Int32, (∀ i, bt r i = true ↔ i < 12 ∧ bt set i = true ∧ ¬ le i &&& mask = 0) → rost r) : wpX_readers rost (xl, xm, xc, xn, xd, xt, kd, ag, st, le, ll, lc, em, fi, la, fo, pr, fr, wd, sz, ot, tN, tL, tH, tO, tP) set mask := by
  refine ⟨13, xs_readersL 12 0 13 0 (by omega) (by omega) fun r hr => H r fun i => ?_⟩
  rw [hr i, b_0]
  simp
theorem xs_succL {A : Nat} {set : Int32} (hA : A < 24) : ∀ (d q n : Nat) (r : Int32), q + d = 12 → d < n →
    (∀ r' : Int32, (∀ i, bt r' i = true ↔ bt r i = true ∨ ∃ p, q ≤ p ∧ p < 12 ∧ bt set p = true ∧ bt (fo (A * 12 + p)) i = true) → rost r') →
    wX_successors_5 rost (nI A) set xl xm xc xn xd xt kd ag st le ll lc em fi la fo pr fr wd sz ot tN tL tH tO tP n r (nI q) := by
  intro d
  induction d with
  | zero =>
    intro q n r hq hn H
    obtain ⟨n, rfl⟩ : ∃ m, n = m + 1 := ⟨n - 1, by omega⟩
    obtain rfl : q = 12 := by omega
    exact br_t xs_12t (H r fun i => ⟨Or.inl, fun h => h.elim id fun ⟨p, h⟩ => by omega⟩)
  | succ d ih =>
    intro q n r hq hn H
    obtain ⟨n, rfl⟩ : ∃ m, n = m + 1 := ⟨n - 1, by omega⟩
    refine br_f (xs_12f (by omega)) ?_
    by_cases hb : bt set q = true
    · refine br_f (by rw [bi_test set (by omega), hb]; decide) ⟨xs_iv hA (by omega), fun y ey => ?_⟩
      rw [xs_ix hA (by omega)] at ey
      subst ey
      refine nm_r (nI_1 q) ?_
      refine ih (q + 1) n _ (by omega) (by omega) fun r' hr => H r' fun i => ?_
      rw [hr i, b_or, Bool.or_eq_true]
      constructor
      · rintro ((h | h) | ⟨p, h1, h⟩)
        · exact Or.inl h
        · exact Or.inr ⟨q, by omega, by omega, hb, h⟩
        · exact Or.inr ⟨p, by omega, h⟩
      · rintro (h | ⟨p, h1, h⟩)
        · exact Or.inl (Or.inl h)
        · by_cases e : p = q
          · subst e
            exact Or.inl (Or.inr h.2.2)
          · exact Or.inr ⟨p, by omega, h⟩
    · refine br_t ((bi_test set (by omega)).mpr (bi_n hb)) (nm_r (nI_1 q) ?_)
      refine ih (q + 1) n r (by omega) (by omega) fun r' hr => H r' fun i => ?_
      rw [hr i]
      refine or_congr Iff.rfl ⟨fun ⟨p, h1, h⟩ => ⟨p, by omega, h⟩, fun ⟨p, h1, h⟩ => ⟨p, ?_, h⟩⟩
      rcases Nat.lt_or_ge q p with h2 | h2
      · exact h2
      · obtain rfl : p = q := by omega
        exact absurd h.2.1 hb
theorem xs_succ {A : Nat} (hA : A < 24) (set : Int32) (H : ∀ r : Int32, (∀ i, bt r i = true ↔ ∃ p, p < 12 ∧ bt set p = true ∧ bt (fo (A * 12 + p)) i = true) → rost r) : wpX_successors rost (xl, xm, xc, xn, xd, xt, kd, ag, st, le, ll, lc, em, fi, la, fo, pr, fr, wd, sz, ot, tN, tL, tH, tO, tP) (nI A) set := by
  refine ⟨13, xs_succL hA 12 0 13 0 (by omega) (by omega) fun r hr => H r fun i => ?_⟩
  rw [hr i, b_0]
  simp
end XS
end
section
section XC
/-! the automaton of X at slot a, by bits -/
def xa_F (fi : Nat → Int32) (a : Nat) : Nat → Prop := fun p => bt (fi a) p = true
def xa_G (fo : Nat → Int32) (a : Nat) : Nat → Nat → Prop := fun p q => p < 12 ∧ bt (fo (a * 12 + p)) q = true
def xa_L (la : Nat → Int32) (a : Nat) : Nat → Prop := fun p => bt (la a) p = true
def xa_rd (le : Nat → Int32) : Nat → Nat → Prop := fun p c => c < 3 ∧ bt (le p) c = true
def xa_J (fm t : Int32) : Nat → Nat → Prop := fun p q => p < 12 ∧ bt fm p = true ∧ bt t q = true
def xa_An (em fi la fo le : Nat → Int32) (a : Nat) : List Nat → Prop := au_An (em a = 1) (xa_F fi a) (xa_G fo a) (xa_L la a) (xa_rd le)
def xa_Le (le : Nat → Int32) : Prop := ∀ p, p < 12 → ∃ m, m < 8 ∧ le p = nI m
def xc_b : Bool → Nat
  | false => 0
  | true => 1
def xc_R (pr : Nat → Int32) (d : Bool) (p q : Nat) : Prop := bt (pr (xc_b d * 12 + p)) q = true
def xc_CM (le : Nat → Int32) (p q : Nat) : Prop := ¬ le q &&& le p = 0
def xc_ST (le fo : Nat → Int32) (A : Nat) (fm t : Int32) (d : Bool) (p q : Nat) (e : Bool) (p' q' : Nat) : Prop :=
  q' < 12 ∧ xc_CM le p' q' ∧ ((e = d ∧ xa_G fo A p p' ∧ xa_G fo A q q') ∨ (e = d ∧ xa_J fm t p p' ∧ xa_J fm t q q') ∨
    (e = true ∧ xa_G fo A p p' ∧ xa_J fm t q q') ∨ (e = true ∧ xa_J fm t p p' ∧ xa_G fo A q q'))
theorem xc_CMi {le : Nat → Int32} (hl : xa_Le le) {p q : Nat} (hp : p < 12) : xc_CM le p q ↔ ∃ c, xa_rd le p c ∧ xa_rd le q c := by
  unfold xc_CM xa_rd
  obtain ⟨m, hm, e⟩ := hl p hp
  rw [bi_and0]
  constructor
  · intro h
    have h := Classical.not_forall.mp h
    obtain ⟨i, hi⟩ := h
    have hi := Classical.not_not.mp hi
    have h3 : i < 3 := by
      have := hi.2
      rw [e] at this
      exact bi_83 hm this
    exact ⟨i, ⟨h3, hi.2⟩, h3, hi.1⟩
  · rintro ⟨c, h1, h2⟩ h
    exact h c ⟨h2.2, h1.2⟩
theorem xc_bl (d : Bool) : xc_b d < 2 := by cases d <;> decide
theorem xc_bi {d e : Bool} {p q : Nat} (hp : p < 12) (hq : q < 12) (h : xc_b e * 12 + q = xc_b d * 12 + p) : e = d ∧ q = p := by
  cases d <;> cases e
  · replace h : 0 * 12 + q = 0 * 12 + p := h
    exact ⟨rfl, by omega⟩
  · replace h : 1 * 12 + q = 0 * 12 + p := h
    omega
  · replace h : 0 * 12 + q = 1 * 12 + p := h
    omega
  · replace h : 1 * 12 + q = 1 * 12 + p := h
    exact ⟨rfl, by omega⟩
theorem xc_sl {k : Nat} (h : k < 24) : ∃ d p, p < 12 ∧ k = xc_b d * 12 + p := by
  rcases Nat.lt_or_ge k 12 with h1 | h1
  · exact ⟨false, k, h1, by simp [xc_b]⟩
  · exact ⟨true, k - 12, by omega, by simp only [xc_b]; omega⟩
variable {xl xm xc xn xd xt : Int32} {kd ag st le ll lc em fi la fo pr fr wd sz ot tN tL tH tO tP : Nat → Int32} {post : SX → Prop} {qost : Int32 → SX → Prop} {rost : Int32 → Prop}
theorem xc_ix {d : Bool} {p : Nat} (hp : p < 12) : (nI (xc_b d) * 12 + nI p).toNatClampNeg = xc_b d * 12 + p := by
  have := xc_bl d
  rw [nu_m12, nI_add, xs_cl (by omega)]
theorem xc_iv {d : Bool} {p : Nat} (hp : p < 12) : vp_in (nI (xc_b d) * 12 + nI p) 24 := by
  have := xc_bl d
  rw [nu_m12, nI_add]
  exact xs_in (by omega) (by omega)
theorem xc_joinL {d : Bool} {sP sQ : Int32} : ∀ (m p n : Nat) (fr : Nat → Int32), p + m = 12 → m < n →
    (∀ fr' : Nat → Int32, (∀ e r q, r < 12 → (xc_R fr' e r q ↔ xc_R fr e r q ∨ (e = d ∧ p ≤ r ∧ bt sP r = true ∧ q < 12 ∧ bt sQ q = true ∧ xc_CM le r q))) → post (xl, xm, xc, xn, xd, xt, kd, ag, st, le, ll, lc, em, fi, la, fo, pr, fr', wd, sz, ot, tN, tL, tH, tO, tP)) →
    wX_join_3 post (nI (xc_b d)) sP sQ xl xm xc xn xd xt n (nI p) kd ag st le ll lc em fi la fo pr fr wd sz ot tN tL tH tO tP := by
  intro m
  induction m with
  | zero =>
    intro p n fr hp hn H
    obtain ⟨n, rfl⟩ : ∃ m, n = m + 1 := ⟨n - 1, by omega⟩
    obtain rfl : p = 12 := by omega
    exact br_t xs_12t (H fr fun e r q hr => ⟨Or.inl, fun h => h.elim id fun h => by omega⟩)
  | succ m ih =>
    intro p n fr hp hn H
    obtain ⟨n, rfl⟩ : ∃ m, n = m + 1 := ⟨n - 1, by omega⟩
    refine br_f (xs_12f (by omega)) ?_
    by_cases hb : bt sP p = true
    · refine br_f (by rw [bi_test sP (by omega), hb]; decide) ⟨xc_iv (by omega), xs_in (by omega) (by omega), ?_⟩
      refine xs_readers _ _ fun rr hrr => ⟨xc_iv (by omega), fun y ey => ?_⟩
      rw [xc_ix (by omega)] at ey
      rw [xs_cl (by omega : p < 4096)] at hrr
      subst ey
      refine nm_r (nI_1 p) ?_
      refine ih (p + 1) n _ (by omega) (by omega) fun fr' h1 => H fr' fun e r q hr => ?_
      rw [h1 e r q hr]
      by_cases hx : e = d ∧ r = p
      · obtain ⟨rfl, rfl⟩ := hx
        have : xc_R (upd fr (xc_b e * 12 + r) (fr (xc_b e * 12 + r) ||| rr)) e r q ↔ xc_R fr e r q ∨ (q < 12 ∧ bt sQ q = true ∧ xc_CM le r q) := by
          unfold xc_R
          rw [nu_us, b_or, Bool.or_eq_true, hrr q]
          rfl
        rw [this]
        constructor
        · rintro ((h | h) | h)
          · exact Or.inl h
          · exact Or.inr ⟨rfl, by omega, hb, h⟩
          · exact Or.inr ⟨h.1, by omega, h.2.2⟩
        · rintro (h | h)
          · exact Or.inl (Or.inl h)
          · exact Or.inl (Or.inr h.2.2.2)
      · have : xc_R (upd fr (xc_b d * 12 + p) (fr (xc_b d * 12 + p) ||| rr)) e r q ↔ xc_R fr e r q := by
          unfold xc_R
          rw [nu_un fun h => hx (xc_bi (by omega) hr h)]
        rw [this]
        refine or_congr Iff.rfl ⟨fun h => ⟨h.1, by omega, h.2.2⟩, fun h => ⟨h.1, ?_, h.2.2⟩⟩
        have : r ≠ p := fun e => hx ⟨h.1, e⟩
        omega
    · refine br_t ((bi_test sP (by omega)).mpr (bi_n hb)) (nm_r (nI_1 p) ?_)
      refine ih (p + 1) n fr (by omega) (by omega) fun fr' h1 => H fr' fun e r q hr => ?_
      rw [h1 e r q hr]
      refine or_congr Iff.rfl ⟨fun h => ⟨h.1, by omega, h.2.2⟩, fun h => ⟨h.1, ?_, h.2.2⟩⟩
      have : r ≠ p := by
        rintro rfl
        exact hb h.2.2.1
      omega
theorem xc_join (d : Bool) (sP sQ : Int32) (H : ∀ fr' : Nat → Int32, (∀ e r q, r < 12 → (xc_R fr' e r q ↔ xc_R fr e r q ∨ (e = d ∧ bt sP r = true ∧ q < 12 ∧ bt sQ q = true ∧ xc_CM le r q))) → post (xl, xm, xc, xn, xd, xt, kd, ag, st, le, ll, lc, em, fi, la, fo, pr, fr', wd, sz, ot, tN, tL, tH, tO, tP)) :
    wpX_join post (xl, xm, xc, xn, xd, xt, kd, ag, st, le, ll, lc, em, fi, la, fo, pr, fr, wd, sz, ot, tN, tL, tH, tO, tP) (nI (xc_b d)) sP sQ := by
  refine ⟨13, xc_joinL 12 0 13 fr (by omega) (by omega) fun fr' h => H fr' fun e r q hr => ?_⟩
  rw [h e r q hr]
  simp
theorem xc_join0 (sP sQ : Int32) (H : ∀ fr' : Nat → Int32, (∀ e r q, r < 12 → (xc_R fr' e r q ↔ xc_R fr e r q ∨ (e = false ∧ bt sP r = true ∧ q < 12 ∧ bt sQ q = true ∧ xc_CM le r q))) → post (xl, xm, xc, xn, xd, xt, kd, ag, st, le, ll, lc, em, fi, la, fo, pr, fr', wd, sz, ot, tN, tL, tH, tO, tP)) :
    wpX_join post (xl, xm, xc, xn, xd, xt, kd, ag, st, le, ll, lc, em, fi, la, fo, pr, fr, wd, sz, ot, tN, tL, tH, tO, tP) 0 sP sQ := xc_join false sP sQ H
theorem xc_join1 (sP sQ : Int32) (H : ∀ fr' : Nat → Int32, (∀ e r q, r < 12 → (xc_R fr' e r q ↔ xc_R fr e r q ∨ (e = true ∧ bt sP r = true ∧ q < 12 ∧ bt sQ q = true ∧ xc_CM le r q))) → post (xl, xm, xc, xn, xd, xt, kd, ag, st, le, ll, lc, em, fi, la, fo, pr, fr', wd, sz, ot, tN, tL, tH, tO, tP)) :
    wpX_join post (xl, xm, xc, xn, xd, xt, kd, ag, st, le, ll, lc, em, fi, la, fo, pr, fr, wd, sz, ot, tN, tL, tH, tO, tP) 1 sP sQ := xc_join true sP sQ H
theorem xc_blankL : ∀ (m p n : Nat) (fr : Nat → Int32), p + m = 24 → m < n →
    (∀ fr' : Nat → Int32, (∀ j, j < p → fr' j = fr j) → (∀ j, p ≤ j → j < 24 → fr' j = 0) → post (xl, xm, xc, xn, xd, xt, kd, ag, st, le, ll, lc, em, fi, la, fo, pr, fr', wd, sz, ot, tN, tL, tH, tO, tP)) →
    wX_blankFresh_2 post xl xm xc xn xd xt n (nI p) kd ag st le ll lc em fi la fo pr fr wd sz ot tN tL tH tO tP := by
  intro m
  induction m with
  | zero =>
    intro p n fr hp hn H
    obtain ⟨n, rfl⟩ : ∃ m, n = m + 1 := ⟨n - 1, by omega⟩
    obtain rfl : p = 24 := by omega
    exact br_t xs_24t (H fr (fun _ _ => rfl) (fun _ h1 h2 => by omega))
  | succ m ih =>
    intro p n fr hp hn H
    obtain ⟨n, rfl⟩ : ∃ m, n = m + 1 := ⟨n - 1, by omega⟩
    refine br_f (xs_24f (by omega)) ⟨xs_in (by omega) (by omega), fun y ey => ?_⟩
    rw [xs_cl (by omega : p < 4096)] at ey
    subst ey
    refine nm_r (nI_1 p) ?_
    refine ih (p + 1) n _ (by omega) (by omega) fun fr' h1 h2 => H fr' ?_ ?_
    · intro j hj
      rw [h1 j (by omega), nu_un (by omega)]
    · intro j hj hj'
      rcases Nat.lt_or_ge p j with h | h
      · exact h2 j h hj'
      · obtain rfl : j = p := by omega
        rw [h1 j (by omega), nu_us]
theorem xc_blank (H : ∀ fr' : Nat → Int32, (∀ e p q, p < 12 → ¬ xc_R fr' e p q) → post (xl, xm, xc, xn, xd, xt, kd, ag, st, le, ll, lc, em, fi, la, fo, pr, fr', wd, sz, ot, tN, tL, tH, tO, tP)) : wpX_blankFresh post (xl, xm, xc, xn, xd, xt, kd, ag, st, le, ll, lc, em, fi, la, fo, pr, fr, wd, sz, ot, tN, tL, tH, tO, tP) := by
  refine ⟨25, xc_blankL 24 0 25 fr (by omega) (by omega) fun fr' _ h => H fr' fun e p q hp hq => ?_⟩
  unfold xc_R at hq
  have := xc_bl e
  rw [h _ (by omega) (by omega), b_0] at hq
  exact absurd hq (by decide)
theorem xc_takeL : ∀ (m p n : Nat) (pr : Nat → Int32), p + m = 24 → m < n →
    (∀ pr' : Nat → Int32, (∀ j, j < p → pr' j = pr j) → (∀ j, p ≤ j → j < 24 → pr' j = fr j) → post (xl, xm, xc, xn, xd, xt, kd, ag, st, le, ll, lc, em, fi, la, fo, pr', fr, wd, sz, ot, tN, tL, tH, tO, tP)) →
    wX_takeFresh_2 post xl xm xc xn xd xt n (nI p) kd ag st le ll lc em fi la fo pr fr wd sz ot tN tL tH tO tP := by
  intro m
  induction m with
  | zero =>
    intro p n pr hp hn H
    obtain ⟨n, rfl⟩ : ∃ m, n = m + 1 := ⟨n - 1, by omega⟩
    obtain rfl : p = 24 := by omega
    exact br_t xs_24t (H pr (fun _ _ => rfl) (fun _ h1 h2 => by omega))
  | succ m ih =>
    intro p n pr hp hn H
    obtain ⟨n, rfl⟩ : ∃ m, n = m + 1 := ⟨n - 1, by omega⟩
    refine br_f (xs_24f (by omega)) ⟨xs_in (by omega) (by omega), xs_in (by omega) (by omega), fun y ey => ?_⟩
    rw [xs_cl (by omega : p < 4096)] at ey
    subst ey
    refine nm_r (nI_1 p) ?_
    refine ih (p + 1) n _ (by omega) (by omega) fun pr' h1 h2 => H pr' ?_ ?_
    · intro j hj
      rw [h1 j (by omega), nu_un (by omega)]
    · intro j hj hj'
      rcases Nat.lt_or_ge p j with h | h
      · exact h2 j h hj'
      · obtain rfl : j = p := by omega
        rw [h1 j (by omega), nu_us]
theorem xc_take (H : ∀ pr' : Nat → Int32, (∀ e p q, p < 12 → (xc_R pr' e p q ↔ xc_R fr e p q)) → post (xl, xm, xc, xn, xd, xt, kd, ag, st, le, ll, lc, em, fi, la, fo, pr', fr, wd, sz, ot, tN, tL, tH, tO, tP)) : wpX_takeFresh post (xl, xm, xc, xn, xd, xt, kd, ag, st, le, ll, lc, em, fi, la, fo, pr, fr, wd, sz, ot, tN, tL, tH, tO, tP) := by
  refine ⟨25, xc_takeL 24 0 25 pr (by omega) (by omega) fun pr' _ h => H pr' fun e p q hp => ?_⟩
  unfold xc_R
  have := xc_bl e
  rw [h _ (by omega) (by omega)]
theorem xc_ends {ends : Int32} : ∀ (m p n : Nat), p + m = 12 → m < n →
    ((∃ r q, p ≤ r ∧ r < 12 ∧ xc_R pr true r q ∧ bt ends r = true ∧ bt ends q = true) → rost 1) →
    ((¬ ∃ r q, p ≤ r ∧ r < 12 ∧ xc_R pr true r q ∧ bt ends r = true ∧ bt ends q = true) → rost 0) →
    wX_differingRunsEnd_2 rost ends xl xm xc xn xd xt kd ag st le ll lc em fi la fo pr fr wd sz ot tN tL tH tO tP n (nI p) := by
  intro m
  induction m with
  | zero =>
    intro p n hp hn H1 H0
    obtain ⟨n, rfl⟩ : ∃ m, n = m + 1 := ⟨n - 1, by omega⟩
    obtain rfl : p = 12 := by omega
    exact br_t xs_12t (H0 fun ⟨r, q, h1, h2, _⟩ => by omega)
  | succ m ih =>
    intro p n hp hn H1 H0
    obtain ⟨n, rfl⟩ : ∃ m, n = m + 1 := ⟨n - 1, by omega⟩
    refine br_f (xs_12f (by omega)) ?_
    have cl : (12 + nI p).toNatClampNeg = xc_b true * 12 + p := by
      rw [nu_12a, xs_cl (by omega)]
      simp [xc_b]
    have nxt : (¬ ∃ q, xc_R pr true p q ∧ bt ends p = true ∧ bt ends q = true) → wX_differingRunsEnd_2 rost ends xl xm xc xn xd xt kd ag st le ll lc em fi la fo pr fr wd sz ot tN tL tH tO tP n (nI (p + 1)) := by
      intro hno
      refine ih (p + 1) n (by omega) (by omega) (fun ⟨r, q, h1, h⟩ => H1 ⟨r, q, by omega, h⟩) fun h => H0 fun ⟨r, q, h1, h2⟩ => ?_
      by_cases e : r = p
      · subst e
        exact hno ⟨q, h2.2⟩
      · exact h ⟨r, q, by omega, h2⟩
    by_cases hb : bt ends p = true
    · refine br_f (by rw [bi_test ends (by omega), hb]; decide) ⟨by rw [nu_12a]; exact xs_in (by omega) (by omega), ?_⟩
      by_cases hz : pr (12 + nI p).toNatClampNeg &&& ends = 0
      · refine br_t hz (nm_r (nI_1 p) (nxt fun ⟨q, h1, _, h2⟩ => ?_))
        rw [cl] at hz
        exact (bi_and0 _ _).mp hz q ⟨h1, h2⟩
      · refine br_f hz (H1 ?_)
        rw [cl] at hz
        have hz := fun h => hz ((bi_and0 _ _).mpr h)
        obtain ⟨q, hq⟩ := Classical.not_forall.mp hz
        have hq := Classical.not_not.mp hq
        exact ⟨p, q, by omega, by omega, hq.1, hb, hq.2⟩
    · exact br_t ((bi_test ends (by omega)).mpr (bi_n hb)) (nm_r (nI_1 p) (nxt fun ⟨q, _, h, _⟩ => hb h))
theorem xc_jb {fm t : Int32} {p q : Nat} (hp : p < 12) : bt (if bt fm p = true then t else 0) q = true ↔ xa_J fm t p q := by
  unfold xa_J
  by_cases h : bt fm p = true
  · rw [if_pos h]; simp [h, hp]
  · rw [if_neg h, b_0]; simp [h]
theorem xc_pair {A : Nat} (hA : A < 24) (fm t : Int32) {d : Bool} {p q : Nat} (hp : p < 12) (hq : q < 12)
    (H : ∀ fr' : Nat → Int32, (∀ e p' q', p' < 12 → (xc_R fr' e p' q' ↔ xc_R fr e p' q' ∨ xc_ST le fo A fm t d p q e p' q')) → post (xl, xm, xc, xn, xd, xt, kd, ag, st, le, ll, lc, em, fi, la, fo, pr, fr', wd, sz, ot, tN, tL, tH, tO, tP)) :
    wpX_advancePair post (xl, xm, xc, xn, xd, xt, kd, ag, st, le, ll, lc, em, fi, la, fo, pr, fr, wd, sz, ot, tN, tL, tH, tO, tP) (nI A) fm t (nI (xc_b d * 12 + p)) (nI q) := by
  have hd := xc_bl d
  have n3 : ¬ (12 : Int32) = 0 := by decide
  unfold wpX_advancePair
  dsimp only
  refine ⟨n3, nm_r (e' := nI (xc_b d)) ?_ ⟨n3, nm_r (e' := nI p) ?_ ⟨xs_iv hA hp, ?_⟩⟩⟩
  · rw [nu_d12 (by omega)]
    congr 1
    omega
  · rw [nu_d12 (by omega), nu_m12, nu_s (by omega)]
    congr 1
    omega
  · rw [xs_ix hA hp]
    refine nm_e ⟨xs_iv hA hq, ?_⟩
    rw [xs_ix hA hq]
    refine nm_e (xs_jump hp fm t (xs_jump hq fm t ?_))
    refine xc_join d _ _ fun fr1 h1 => ?_
    refine xc_join d _ _ fun fr2 h2 => ?_
    refine xc_join1 _ _ fun fr3 h3 => ?_
    refine xc_join1 _ _ fun fr4 h4 => ?_
    refine H fr4 fun e p' q' hp' => ?_
    rw [h4 e p' q' hp', h3 e p' q' hp', h2 e p' q' hp', h1 e p' q' hp', xc_jb hp, xc_jb hq]
    unfold xc_ST xa_G
    constructor
    · rintro ((((h | h) | h) | h) | h)
      · exact Or.inl h
      · exact Or.inr ⟨h.2.2.1, h.2.2.2.2, Or.inl ⟨h.1, ⟨hp, h.2.1⟩, hq, h.2.2.2.1⟩⟩
      · exact Or.inr ⟨h.2.2.1, h.2.2.2.2, Or.inr (Or.inl ⟨h.1, h.2.1, h.2.2.2.1⟩)⟩
      · exact Or.inr ⟨h.2.2.1, h.2.2.2.2, Or.inr (Or.inr (Or.inl ⟨h.1, ⟨hp, h.2.1⟩, h.2.2.2.1⟩))⟩
      · exact Or.inr ⟨h.2.2.1, h.2.2.2.2, Or.inr (Or.inr (Or.inr ⟨h.1, h.2.1, hq, h.2.2.2.1⟩))⟩
    · rintro (h | ⟨a, b, (h | h | h | h)⟩)
      · exact Or.inl (Or.inl (Or.inl (Or.inl h)))
      · exact Or.inl (Or.inl (Or.inl (Or.inr ⟨h.1, h.2.1.2, a, h.2.2.2, b⟩)))
      · exact Or.inl (Or.inl (Or.inr ⟨h.1, h.2.1, a, h.2.2, b⟩))
      · exact Or.inl (Or.inr ⟨h.1, h.2.1.2, a, h.2.2, b⟩)
      · exact Or.inr ⟨h.1, h.2.1, a, h.2.2.2, b⟩
theorem xc_adv17 {A : Nat} (hA : A < 24) (fm t : Int32) {d : Bool} {p : Nat} (hp : p < 12) {J7 : Int32 → Int32 → Int32 → Int32 → Int32 → Int32 → Int32 → (Nat → Int32) → (Nat → Int32) → (Nat → Int32) → (Nat → Int32) → (Nat → Int32) → (Nat → Int32) → (Nat → Int32) → (Nat → Int32) → (Nat → Int32) → (Nat → Int32) → (Nat → Int32) → (Nat → Int32) → (Nat → Int32) → (Nat → Int32) → (Nat → Int32) → (Nat → Int32) → (Nat → Int32) → (Nat → Int32) → (Nat → Int32) → (Nat → Int32) → Prop} :
    ∀ (m q n : Nat) (fr : Nat → Int32), q + m = 12 → m < n →
    (∀ fr' : Nat → Int32, (∀ e p' q', p' < 12 → (xc_R fr' e p' q' ↔ xc_R fr e p' q' ∨ ∃ r, q ≤ r ∧ r < 12 ∧ xc_R pr d p r ∧ xc_ST le fo A fm t d p r e p' q')) →
      J7 (nI (xc_b d * 12 + p + 1)) xl xm xc xn xd xt kd ag st le ll lc em fi la fo pr fr' wd sz ot tN tL tH tO tP) →
    wX_advance_17 post J7 (nI A) fm t (nI (xc_b d * 12 + p)) n (nI q) xl xm xc xn xd xt kd ag st le ll lc em fi la fo pr fr wd sz ot tN tL tH tO tP := by
  have hd := xc_bl d
  intro m
  induction m with
  | zero =>
    intro q n fr hq hn H
    obtain ⟨n, rfl⟩ : ∃ m, n = m + 1 := ⟨n - 1, by omega⟩
    obtain rfl : q = 12 := by omega
    exact br_t xs_12t (nm_r (nI_1 _) (H fr fun e p' q' _ => ⟨Or.inl, fun h => h.elim id fun ⟨r, h1, h2, _⟩ => by omega⟩))
  | succ m ih =>
    intro q n fr hq hn H
    obtain ⟨n, rfl⟩ : ∃ m, n = m + 1 := ⟨n - 1, by omega⟩
    have cl : (nI (xc_b d * 12 + p)).toNatClampNeg = xc_b d * 12 + p := xs_cl (by omega)
    refine br_f (xs_12f (by omega)) ⟨xs_in (by omega) (by omega), ?_⟩
    by_cases hb : bt (pr (nI (xc_b d * 12 + p)).toNatClampNeg) q = true
    · refine br_f (by rw [bi_test _ (by omega), hb]; decide) ?_
      rw [cl] at hb
      refine xc_pair hA fm t hp (by omega) fun fr1 h1 => ?_
      refine nm_r (nI_1 q) ?_
      refine ih (q + 1) n fr1 (by omega) (by omega) fun fr' h2 => H fr' fun e p' q' hp' => ?_
      rw [h2 e p' q' hp', h1 e p' q' hp']
      constructor
      · rintro ((h | h) | ⟨r, h3, h⟩)
        · exact Or.inl h
        · exact Or.inr ⟨q, by omega, by omega, hb, h⟩
        · exact Or.inr ⟨r, by omega, h⟩
      · rintro (h | ⟨r, h3, h⟩)
        · exact Or.inl (Or.inl h)
        · by_cases e : r = q
          · subst e
            exact Or.inl (Or.inr h.2.2)
          · exact Or.inr ⟨r, by omega, h⟩
    · refine br_t ((bi_test _ (by omega)).mpr (bi_n hb)) (nm_r (nI_1 q) ?_)
      rw [cl] at hb
      refine ih (q + 1) n fr (by omega) (by omega) fun fr' h2 => H fr' fun e p' q' hp' => ?_
      rw [h2 e p' q' hp']
      refine or_congr Iff.rfl ⟨fun ⟨r, h3, h⟩ => ⟨r, by omega, h⟩, fun ⟨r, h3, h⟩ => ⟨r, ?_, h⟩⟩
      have : r ≠ q := by
        rintro rfl
        exact hb h.2.1
      omega
theorem xc_adv7 {A : Nat} (hA : A < 24) (fm t : Int32) : ∀ (m k n : Nat) (fr : Nat → Int32), k + m = 24 → m < n →
    (∀ pr' fr' : Nat → Int32, (∀ e p' q', p' < 12 → (xc_R pr' e p' q' ↔ xc_R fr e p' q' ∨ ∃ d p q, k ≤ xc_b d * 12 + p ∧ p < 12 ∧ q < 12 ∧ xc_R pr d p q ∧ xc_ST le fo A fm t d p q e p' q')) →
      post (xl, xm, xc, xn, xd, xt, kd, ag, st, le, ll, lc, em, fi, la, fo, pr', fr', wd, sz, ot, tN, tL, tH, tO, tP)) →
    wX_advance_7 post (nI A) fm t n (nI k) xl xm xc xn xd xt kd ag st le ll lc em fi la fo pr fr wd sz ot tN tL tH tO tP := by
  intro m
  induction m with
  | zero =>
    intro k n fr hk hn H
    obtain ⟨n, rfl⟩ : ∃ m, n = m + 1 := ⟨n - 1, by omega⟩
    obtain rfl : k = 24 := by omega
    refine br_t xs_24t (xc_take fun pr' h => H pr' fr fun e p' q' hp' => ?_)
    rw [h e p' q' hp']
    refine ⟨Or.inl, fun h => h.elim id fun ⟨d, p, q, h1, h2, _⟩ => ?_⟩
    have := xc_bl d
    omega
  | succ m ih =>
    intro k n fr hk hn H
    obtain ⟨n, rfl⟩ : ∃ m, n = m + 1 := ⟨n - 1, by omega⟩
    refine br_f (xs_24f (by omega)) ⟨13, ?_⟩
    obtain ⟨d, p, hp, rfl⟩ := xc_sl (by omega : k < 24)
    refine xc_adv17 hA fm t hp 12 0 13 fr (by omega) (by omega) fun fr1 h1 => ?_
    refine ih (xc_b d * 12 + p + 1) n fr1 (by omega) (by omega) fun pr' fr' h2 => H pr' fr' fun e p' q' hp' => ?_
    rw [h2 e p' q' hp', h1 e p' q' hp']
    constructor
    · rintro ((h | ⟨r, _, h⟩) | ⟨d', p2, q2, h3, h⟩)
      · exact Or.inl h
      · exact Or.inr ⟨d, p, r, by omega, hp, h⟩
      · exact Or.inr ⟨d', p2, q2, by omega, h⟩
    · rintro (h | ⟨d', p2, q2, h3, h⟩)
      · exact Or.inl (Or.inl h)
      · by_cases e : xc_b d' * 12 + p2 = xc_b d * 12 + p
        · obtain ⟨rfl, rfl⟩ := xc_bi hp h.1 e
          exact Or.inl (Or.inr ⟨q2, by omega, h.2⟩)
        · exact Or.inr ⟨d', p2, q2, by omega, h⟩
theorem xc_advance {A : Nat} (hA : A < 24) (fm t : Int32)
    (H : ∀ pr' fr' : Nat → Int32, (∀ e p' q', p' < 12 → (xc_R pr' e p' q' ↔ ∃ d p q, p < 12 ∧ q < 12 ∧ xc_R pr d p q ∧ xc_ST le fo A fm t d p q e p' q')) → post (xl, xm, xc, xn, xd, xt, kd, ag, st, le, ll, lc, em, fi, la, fo, pr', fr', wd, sz, ot, tN, tL, tH, tO, tP)) :
    wpX_advance post (xl, xm, xc, xn, xd, xt, kd, ag, st, le, ll, lc, em, fi, la, fo, pr, fr, wd, sz, ot, tN, tL, tH, tO, tP) (nI A) fm t := by
  unfold wpX_advance
  dsimp only
  refine xc_blank fun fr1 h1 => ⟨25, ?_⟩
  refine xc_adv7 hA fm t 24 0 25 fr1 (by omega) (by omega) fun pr' fr' h2 => H pr' fr' fun e p' q' hp' => ?_
  rw [h2 e p' q' hp']
  constructor
  · rintro (h | ⟨d, p, q, _, h⟩)
    · exact absurd h (h1 _ _ _ hp')
    · exact ⟨d, p, q, h⟩
  · rintro ⟨d, p, q, h⟩
    exact Or.inr ⟨d, p, q, by omega, h⟩
end XC
end
section
section XD
def xd_Z (G J : Nat → Nat → Prop) (L : Nat → Prop) (rd : Nat → Nat → Prop) (pr : Nat → Int32) (m : Nat) : Prop :=
  ∃ w d p q, w.length < m ∧ p < 12 ∧ q < 12 ∧ xc_R pr d p q ∧ pd_D G J L rd w d p q
theorem xd_step {le fo la : Nat → Int32} {A : Nat} {fm t : Int32} {pr pr' : Nat → Int32} (hl : xa_Le le)
    (hG : ∀ p q, xa_G fo A p q → q < 12) (hJ : ∀ q, bt t q = true → q < 12)
    (hR : ∀ e p' q', p' < 12 → (xc_R pr' e p' q' ↔ ∃ d p q, p < 12 ∧ q < 12 ∧ xc_R pr d p q ∧ xc_ST le fo A fm t d p q e p' q')) (m : Nat) :
    xd_Z (xa_G fo A) (xa_J fm t) (xa_L la A) (xa_rd le) pr (m + 1) ↔
      (∃ p q, p < 12 ∧ q < 12 ∧ xc_R pr true p q ∧ xa_L la A p ∧ xa_L la A q) ∨ xd_Z (xa_G fo A) (xa_J fm t) (xa_L la A) (xa_rd le) pr' m := by
  have hG' := hG
  have hJ' : ∀ p q, xa_J fm t p q → q < 12 := fun p q h => hJ q h.2.2
  constructor
  · rintro ⟨w, d, p, q, hw, hp, hq, hr, hd⟩
    cases w with
    | nil =>
      obtain ⟨rfl, h1, h2⟩ := hd
      exact Or.inl ⟨p, q, hp, hq, hr, h1, h2⟩
    | cons c w =>
      obtain ⟨p', q', r1, r2, h⟩ := hd
      have hw : w.length < m := by simpa using hw
      have cm : p' < 12 → xc_CM le p' q' := fun h => (xc_CMi hl h).mpr ⟨c, r1, r2⟩
      rcases h with h | h | h | h
      · have a := hG _ _ h.1
        have b := hG _ _ h.2.1
        exact Or.inr ⟨w, d, p', q', hw, a, b, (hR d p' q' a).mpr ⟨d, p, q, hp, hq, hr, b, cm a, Or.inl ⟨rfl, h.1, h.2.1⟩⟩, h.2.2⟩
      · have a := hJ' _ _ h.1
        have b := hJ' _ _ h.2.1
        exact Or.inr ⟨w, d, p', q', hw, a, b, (hR d p' q' a).mpr ⟨d, p, q, hp, hq, hr, b, cm a, Or.inr (Or.inl ⟨rfl, h.1, h.2.1⟩)⟩, h.2.2⟩
      · have a := hG _ _ h.1
        have b := hJ' _ _ h.2.1
        exact Or.inr ⟨w, true, p', q', hw, a, b, (hR true p' q' a).mpr ⟨d, p, q, hp, hq, hr, b, cm a, Or.inr (Or.inr (Or.inl ⟨rfl, h.1, h.2.1⟩))⟩, h.2.2⟩
      · have a := hJ' _ _ h.1
        have b := hG _ _ h.2.1
        exact Or.inr ⟨w, true, p', q', hw, a, b, (hR true p' q' a).mpr ⟨d, p, q, hp, hq, hr, b, cm a, Or.inr (Or.inr (Or.inr ⟨rfl, h.1, h.2.1⟩))⟩, h.2.2⟩
  · rintro (⟨p, q, hp, hq, hr, h1, h2⟩ | ⟨w, e, p', q', hw, hp', hq', hr', hd⟩)
    · exact ⟨[], true, p, q, by simp, hp, hq, hr, rfl, h1, h2⟩
    · obtain ⟨d, p, q, hp, hq, hr, _, hc, h⟩ := (hR e p' q' hp').mp hr'
      obtain ⟨c, r1, r2⟩ := (xc_CMi hl hp').mp hc
      refine ⟨c :: w, d, p, q, by simpa using hw, hp, hq, hr, p', q', r1, r2, ?_⟩
      rcases h with ⟨rfl, h⟩ | ⟨rfl, h⟩ | ⟨rfl, h⟩ | ⟨rfl, h⟩
      · exact Or.inl ⟨h.1, h.2, hd⟩
      · exact Or.inr (Or.inl ⟨h.1, h.2, hd⟩)
      · exact Or.inr (Or.inr (Or.inl ⟨h.1, h.2, hd⟩))
      · exact Or.inr (Or.inr (Or.inr ⟨h.1, h.2, hd⟩))
variable {xl xm xc xn xd xt : Int32} {kd ag st le ll lc em fi la fo pr fr wd sz ot tN tL tH tO tP : Nat → Int32} {post : SX → Prop} {qost : Int32 → SX → Prop} {rost : Int32 → Prop}
theorem xd_loop {N A : Nat} {fm t : Int32} (hN : N ≤ 6) (hA : A < 24) (hl : xa_Le le)
    (hG : ∀ p q, xa_G fo A p q → q < 12) (hJ : ∀ q, bt t q = true → q < 12) (hL : ∀ q, xa_L la A q → q < 12) : ∀ (m k n : Nat) (pr fr : Nat → Int32), k + m = N + 1 → m < n →
    (xd_Z (xa_G fo A) (xa_J fm t) (xa_L la A) (xa_rd le) pr m → ∀ pr' fr' : Nat → Int32, qost 1 (nI N, xm, xc, xn, xd, xt, kd, ag, st, le, ll, lc, em, fi, la, fo, pr', fr', wd, sz, ot, tN, tL, tH, tO, tP)) →
    (¬ xd_Z (xa_G fo A) (xa_J fm t) (xa_L la A) (xa_rd le) pr m → ∀ pr' fr' : Nat → Int32, qost 0 (nI N, xm, xc, xn, xd, xt, kd, ag, st, le, ll, lc, em, fi, la, fo, pr', fr', wd, sz, ot, tN, tL, tH, tO, tP)) →
    wX_clash_75 qost (nI A) fm t n (nI k) (nI N) xm xc xn xd xt kd ag st le ll lc em fi la fo pr fr wd sz ot tN tL tH tO tP := by
  intro m
  induction m with
  | zero =>
    intro k n pr fr hk hn H1 H0
    obtain ⟨n, rfl⟩ : ∃ m, n = m + 1 := ⟨n - 1, by omega⟩
    exact br_t (nI_lt (by omega) (by omega)) (H0 (fun ⟨w, d, p, q, h, _⟩ => by omega) pr fr)
  | succ m ih =>
    intro k n pr fr hk hn H1 H0
    obtain ⟨n, rfl⟩ : ∃ m, n = m + 1 := ⟨n - 1, by omega⟩
    refine br_f (nI_nlt (by omega) (by omega)) ⟨xs_in hA (by omega), ⟨13, ?_⟩⟩
    rw [xs_cl (by omega : A < 4096)]
    refine xc_ends 12 0 13 (by omega) (by omega) ?_ ?_
    · rintro ⟨p, q, _, hp, hr, h1, h2⟩
      refine br_f (by decide) (H1 ⟨[], true, p, q, by simp, hp, hL q h2, hr, rfl, h1, h2⟩ pr fr)
    · intro hno
      refine br_t rfl ?_
      refine xc_advance hA fm t fun pr1 fr1 h1 => ?_
      refine nm_r (nI_1 k) ?_
      have st := xd_step (la := la) hl hG hJ h1 m
      refine ih (k + 1) n pr1 fr1 (by omega) (by omega) (fun hz => H1 (st.mpr (Or.inr hz))) fun hz => H0 fun h => ?_
      rcases st.mp h with ⟨p, q, hp, hq, hr, h1, h2⟩ | h
      · exact hno ⟨p, q, by omega, hp, hr, h1, h2⟩
      · exact hz h
theorem xd_clash {N A B : Nat} {fm t : Int32} (hN : N ≤ 6) (hA : A < 24) (hB : B < 12) (hl : xa_Le le)
    (hF : ∀ q, xa_F fi A q → q < 12) (hG : ∀ p q, xa_G fo A p q → q < 12) (hJ : ∀ q, bt t q = true → q < 12) (hL : ∀ q, xa_L la A q → q < 12)
    (H1 : pd_Cl (fun p => xa_F fi A p ∧ p < B) (fun p => xa_F fi A p ∧ ¬ p < B) (xa_G fo A) (xa_J fm t) (xa_L la A) (xa_rd le) N → ∀ pr' fr' : Nat → Int32, qost 1 (nI N, xm, xc, xn, xd, xt, kd, ag, st, le, ll, lc, em, fi, la, fo, pr', fr', wd, sz, ot, tN, tL, tH, tO, tP))
    (H0 : ¬ pd_Cl (fun p => xa_F fi A p ∧ p < B) (fun p => xa_F fi A p ∧ ¬ p < B) (xa_G fo A) (xa_J fm t) (xa_L la A) (xa_rd le) N → ∀ pr' fr' : Nat → Int32, qost 0 (nI N, xm, xc, xn, xd, xt, kd, ag, st, le, ll, lc, em, fi, la, fo, pr', fr', wd, sz, ot, tN, tL, tH, tO, tP)) :
    wpX_clash qost (nI N, xm, xc, xn, xd, xt, kd, ag, st, le, ll, lc, em, fi, la, fo, pr, fr, wd, sz, ot, tN, tL, tH, tO, tP) (nI A) fm t (nI B) := by
  unfold wpX_clash
  dsimp only
  rw [xs_cl (by omega : A < 4096)]
  refine ⟨xs_in hA (by omega), nm_e ⟨xs_in hA (by omega), nm_e ?_⟩⟩
  have hlo : ∀ i, bt (fi A &&& (((1 : Int32) <<< (nI B &&& 31)) - 1)) i = true ↔ xa_F fi A i ∧ i < B := by
    intro i
    rw [b_and, bi_low hB, Bool.and_eq_true, decide_eq_true_eq]
    rfl
  have hhi : ∀ i, bt (fi A &&& ((fi A &&& (((1 : Int32) <<< (nI B &&& 31)) - 1)) ^^^ (-1))) i = true ↔ xa_F fi A i ∧ ¬ i < B := by
    intro i
    rcases Nat.lt_or_ge i 32 with h | h
    · rw [b_and, bi_not _ h, Bool.and_eq_true, b_and, bi_low hB]
      unfold xa_F
      cases h1 : bt (fi A) i <;> simp
    · rw [b_big h]
      unfold xa_F
      rw [b_big h]
      simp
  generalize fi A &&& (((1 : Int32) <<< (nI B &&& 31)) - 1) = mlo at hlo hhi ⊢
  generalize fi A &&& (mlo ^^^ (-1)) = mhi at hhi ⊢
  refine xc_blank fun f0 h0 => ?_
  refine xc_join0 _ _ fun f1 h1 => ?_
  refine xc_join0 _ _ fun f2 h2 => ?_
  refine xc_join1 _ _ fun f3 h3 => ?_
  refine xc_join1 _ _ fun f4 h4 => ?_
  refine xc_take fun p5 h5 => ⟨N + 1, ?_⟩
  have hR : ∀ e p q, p < 12 → (xc_R p5 e p q ↔ q < 12 ∧ xc_CM le p q ∧ ((e = false ∧ (((xa_F fi A p ∧ p < B) ∧ xa_F fi A q ∧ q < B) ∨ ((xa_F fi A p ∧ ¬ p < B) ∧ xa_F fi A q ∧ ¬ q < B))) ∨
      (e = true ∧ (((xa_F fi A p ∧ p < B) ∧ xa_F fi A q ∧ ¬ q < B) ∨ ((xa_F fi A p ∧ ¬ p < B) ∧ xa_F fi A q ∧ q < B))))) := by
    intro e p q hp
    rw [h5 e p q hp, h4 e p q hp, h3 e p q hp, h2 e p q hp, h1 e p q hp, hlo, hlo, hhi, hhi]
    constructor
    · rintro ((((h | h) | h) | h) | h)
      · exact absurd h (h0 _ _ _ hp)
      · exact ⟨h.2.2.1, h.2.2.2.2, Or.inl ⟨h.1, Or.inl ⟨h.2.1, h.2.2.2.1⟩⟩⟩
      · exact ⟨h.2.2.1, h.2.2.2.2, Or.inl ⟨h.1, Or.inr ⟨h.2.1, h.2.2.2.1⟩⟩⟩
      · exact ⟨h.2.2.1, h.2.2.2.2, Or.inr ⟨h.1, Or.inl ⟨h.2.1, h.2.2.2.1⟩⟩⟩
      · exact ⟨h.2.2.1, h.2.2.2.2, Or.inr ⟨h.1, Or.inr ⟨h.2.1, h.2.2.2.1⟩⟩⟩
    · rintro ⟨a, b, (⟨c, (h | h)⟩ | ⟨c, (h | h)⟩)⟩
      · exact Or.inl (Or.inl (Or.inl (Or.inr ⟨c, h.1, a, h.2, b⟩)))
      · exact Or.inl (Or.inl (Or.inr ⟨c, h.1, a, h.2, b⟩))
      · exact Or.inl (Or.inr ⟨c, h.1, a, h.2, b⟩)
      · exact Or.inr ⟨c, h.1, a, h.2, b⟩
  have key : pd_Cl (fun p => xa_F fi A p ∧ p < B) (fun p => xa_F fi A p ∧ ¬ p < B) (xa_G fo A) (xa_J fm t) (xa_L la A) (xa_rd le) N ↔ xd_Z (xa_G fo A) (xa_J fm t) (xa_L la A) (xa_rd le) p5 N := by
    constructor
    · rintro ⟨c, w, hw, p, q, r1, r2, (⟨h, hd⟩ | ⟨h, hd⟩)⟩
      · have hp : p < 12 := by rcases h with h | h <;> exact hF p h.1.1
        have hq : q < 12 := by rcases h with h | h <;> exact hF q h.2.1
        exact ⟨w, false, p, q, by omega, hp, hq, (hR _ _ _ hp).mpr ⟨hq, (xc_CMi hl hp).mpr ⟨c, r1, r2⟩, Or.inl ⟨rfl, h⟩⟩, hd⟩
      · have hp : p < 12 := by rcases h with h | h <;> exact hF p h.1.1
        have hq : q < 12 := by rcases h with h | h <;> exact hF q h.2.1
        exact ⟨w, true, p, q, by omega, hp, hq, (hR _ _ _ hp).mpr ⟨hq, (xc_CMi hl hp).mpr ⟨c, r1, r2⟩, Or.inr ⟨rfl, h⟩⟩, hd⟩
    · rintro ⟨w, d, p, q, hw, hp, hq, hr, hd⟩
      obtain ⟨_, hc, h⟩ := (hR _ _ _ hp).mp hr
      obtain ⟨c, r1, r2⟩ := (xc_CMi hl hp).mp hc
      refine ⟨c, w, by omega, p, q, r1, r2, ?_⟩
      rcases h with ⟨rfl, h⟩ | ⟨rfl, h⟩
      · exact Or.inl ⟨h, hd⟩
      · exact Or.inr ⟨h, hd⟩
  exact xd_loop hN hA hl hG hJ hL N 1 (N + 1) p5 f4 (by omega) (by omega) (fun h => H1 (key.mpr h)) fun h => H0 fun hc => h (key.mp hc)
end XD
end
section
section XE
def xa_D (lo hi : Nat) : Nat → Prop := fun p => lo ≤ p ∧ p ≤ hi
def xa_In (lo hi : Nat) (em fi la fo : Nat → Int32) (a : Nat) : Prop := (em a = 0 ∨ em a = 1) ∧ au_In (xa_D lo hi) (xa_F fi a) (xa_G fo a) (xa_L la a)
def xe_Fr (a : Nat) (em fi la fo em' fi' la' fo' : Nat → Int32) : Prop := (∀ j, j ≠ a → em' j = em j ∧ fi' j = fi j ∧ la' j = la j) ∧ xs_FR a fo fo'
theorem xe_FrG {a l : Nat} {fo fo' : Nat → Int32} (h : xs_FR a fo fo') (hl : l ≠ a) : xa_G fo' l = xa_G fo l := by
  funext p q
  unfold xa_G
  apply propext
  refine and_congr_right fun hp => ?_
  rw [h (l * 12 + p) (by omega)]
theorem xe_FrF {l : Nat} {f f' : Nat → Int32} (h : f' l = f l) : xa_F f' l = xa_F f l := by
  unfold xa_F
  rw [h]
theorem xe_FrA {a l : Nat} {em fi la fo em' fi' la' fo' le : Nat → Int32} (h : xe_Fr a em fi la fo em' fi' la' fo') (hl : l ≠ a) : xa_An em' fi' la' fo' le l = xa_An em fi la fo le l := by
  unfold xa_An xa_L
  rw [xe_FrG h.2 hl, xe_FrF (h.1 l hl).2.1, (h.1 l hl).1, (h.1 l hl).2.2]
theorem xe_FrI {lo hi a l : Nat} {em fi la fo em' fi' la' fo' : Nat → Int32} (h : xe_Fr a em fi la fo em' fi' la' fo') (hl : l ≠ a) : xa_In lo hi em' fi' la' fo' l ↔ xa_In lo hi em fi la fo l := by
  unfold xa_In xa_L
  rw [xe_FrG h.2 hl, xe_FrF (h.1 l hl).2.1, (h.1 l hl).1, (h.1 l hl).2.2]
theorem xe_FrT {a : Nat} {em fi la fo em' fi' la' fo' em2 fi2 la2 fo2 : Nat → Int32} (h : xe_Fr a em fi la fo em' fi' la' fo') (h2 : xe_Fr a em' fi' la' fo' em2 fi2 la2 fo2) : xe_Fr a em fi la fo em2 fi2 la2 fo2 := by
  refine ⟨fun j hj => ?_, fun j hj => ?_⟩
  · have h3 := h.1 j hj
    have h4 := h2.1 j hj
    exact ⟨h4.1.trans h3.1, h4.2.1.trans h3.2.1, h4.2.2.trans h3.2.2⟩
  · exact (h2.2 j hj).trans (h.2 j hj)
theorem xe_rd (le : Nat → Int32) : ∀ p c, xa_rd le p c → c < 3 := fun _ _ h => h.1
/-- merged slots -/
theorem xe_G {a l r : Nat} {fo fo' : Nat → Int32} (h : ∀ q, q < 12 → fo' (a * 12 + q) = fo (l * 12 + q) ||| fo (r * 12 + q)) (p q : Nat) : xa_G fo' a p q ↔ xa_G fo l p q ∨ xa_G fo r p q := by
  unfold xa_G
  by_cases hp : p < 12
  · rw [h p hp, b_or, Bool.or_eq_true]
    simp [hp]
  · simp [hp]
theorem xe_D {lo hi p : Nat} (hh : hi < 12) (h : xa_D lo hi p) : p < 12 := by
  have := h.2
  omega
theorem xe_uni {A0 B a b C s : Nat} {em fi la fo em' fi' la' fo' le : Nat → Int32} {l r at' : Nat} (hAB : A0 ≤ a) (hab : a < B) (hB : B ≤ b) (hbC : b < C) (hC : C < 12)
    (ia : xa_In A0 a em fi la fo l) (ib : xa_In B b em fi la fo r) (he : em' at' = 0 ∨ em' at' = 1) (he1 : em' at' = 1 ↔ em l = 1 ∨ em r = 1)
    (hf : fi' at' = fi l ||| fi r) (hl : la' at' = la l ||| la r) (hg : ∀ q, q < 12 → fo' (at' * 12 + q) = fo (l * 12 + q) ||| fo (r * 12 + q)) :
    xa_In A0 C em' fi' la' fo' at' ∧ (∀ w, xa_An em' fi' la' fo' le at' w ↔ xa_An em fi la fo le l w ∨ xa_An em fi la fo le r w) ∧
    ∀ n, (pd_Cl (fun p => xa_F fi' at' p ∧ p < B) (fun p => xa_F fi' at' p ∧ ¬ p < B) (xa_G fo' at') (xa_J 0 0) (xa_L la' at') (xa_rd le) n ↔
      ∃ w, w ≠ [] ∧ w.length ≤ n ∧ xa_An em fi la fo le l w ∧ xa_An em fi la fo le r w) := by
  have hG := xe_G hg
  have hF : ∀ p, xa_F fi' at' p ↔ xa_F fi l p ∨ xa_F fi r p := by
    intro p
    unfold xa_F
    rw [hf, b_or, Bool.or_eq_true]
  have hL : ∀ p, xa_L la' at' p ↔ xa_L la l p ∨ xa_L la r p := by
    intro p
    unfold xa_L
    rw [hl, b_or, Bool.or_eq_true]
  have dj : ∀ p, xa_D A0 a p → ¬ xa_D B b p := by
    intro p h1 h2
    have := h1.2
    have := h2.1
    omega
  have wa : ∀ p, xa_D A0 a p → xa_D A0 C p := fun p h => ⟨h.1, by have := h.2; omega⟩
  have wb : ∀ p, xa_D B b p → xa_D A0 C p := fun p h => ⟨by have := h.1; omega, by have := h.2; omega⟩
  refine ⟨⟨he, ?_, ?_, ?_⟩, (au_u dj ia.2 ib.2 hG hL hF he1).2.2, ?_⟩
  · intro p h
    rcases (hF p).mp h with h | h
    · exact wa _ (ia.2.1 _ h)
    · exact wb _ (ib.2.1 _ h)
  · intro p q h
    rcases (hG p q).mp h with h | h
    · exact ⟨wa _ (ia.2.2.1 _ _ h).1, wa _ (ia.2.2.1 _ _ h).2⟩
    · exact ⟨wb _ (ib.2.2.1 _ _ h).1, wb _ (ib.2.2.1 _ _ h).2⟩
  · intro p h
    rcases (hL p).mp h with h | h
    · exact wa _ (ia.2.2.2 _ h)
    · exact wb _ (ib.2.2.2 _ h)
  · refine pd_uni dj ia.2 ib.2 hG ?_ hL ?_ ?_
    · intro p q h
      have := h.2.1
      rw [b_0] at this
      exact absurd this (by decide)
    · intro p
      rw [hF]
      constructor
      · rintro ⟨h | h, hp⟩
        · exact h
        · have := (ib.2.1 _ h).1
          omega
      · intro h
        have := (ia.2.1 _ h).2
        exact ⟨Or.inl h, by omega⟩
    · intro p
      rw [hF]
      constructor
      · rintro ⟨h | h, hp⟩
        · have := (ia.2.1 _ h).2
          omega
        · exact h
      · intro h
        have := (ib.2.1 _ h).1
        exact ⟨Or.inr h, by omega⟩
/-- one behind the other: masks zf, zl, ze as X sets them -/
theorem xe_cat {A0 B a b C N : Nat} {em fi la fo em' fi' la' fo1 fo2 le : Nat → Int32} {l r at' : Nat} (hAB : A0 ≤ a) (hab : a < B) (hB : B ≤ b) (hbC : b < C) (hC : C < 12)
    (ia : xa_In A0 a em fi la fo l) (ib : xa_In B b em fi la fo r) (he : em' at' = 0 ∨ em' at' = 1) (he1 : em' at' = 1 ↔ em l = 1 ∧ em r = 1)
    (hf : fi' at' = fi l ||| (if em l = 1 then fi r else 0)) (hl : la' at' = la r ||| (if em r = 1 then la l else 0))
    (hg : ∀ q, q < 12 → fo1 (at' * 12 + q) = fo (l * 12 + q) ||| fo (r * 12 + q))
    (hg2 : ∀ q, q < 12 → fo2 (at' * 12 + q) = fo1 (at' * 12 + q) ||| (if bt (la l) q = true then fi r else 0)) :
    xa_In A0 C em' fi' la' fo2 at' ∧ (∀ w, xa_An em' fi' la' fo2 le at' w ↔ wo_Sp (xa_An em fi la fo le l) (xa_An em fi la fo le r) w) := by
  have hF : ∀ p, xa_F fi' at' p ↔ xa_F fi l p ∨ (em l = 1 ∧ xa_F fi r p) := by
    intro p
    unfold xa_F
    rw [hf, b_or, Bool.or_eq_true]
    by_cases h : em l = 1
    · rw [if_pos h]; simp [h]
    · rw [if_neg h, b_0]; simp [h]
  have hL : ∀ p, xa_L la' at' p ↔ xa_L la r p ∨ (em r = 1 ∧ xa_L la l p) := by
    intro p
    unfold xa_L
    rw [hl, b_or, Bool.or_eq_true]
    by_cases h : em r = 1
    · rw [if_pos h]; simp [h]
    · rw [if_neg h, b_0]; simp [h]
  have hG : ∀ p q, xa_G fo2 at' p q ↔ xa_G fo l p q ∨ xa_G fo r p q ∨ (xa_L la l p ∧ xa_F fi r q) := by
    intro p q
    by_cases hp : p < 12
    · unfold xa_G xa_L xa_F
      rw [hg2 p hp, hg p hp, b_or, b_or, Bool.or_eq_true, Bool.or_eq_true]
      by_cases h : bt (la l) p = true
      · rw [if_pos h]; simp [h, hp, or_assoc]
      · rw [if_neg h, b_0]; simp [h, hp]
    · have : ¬ xa_L la l p := by
        intro h
        have := (ia.2.2.2 _ h).2
        omega
      unfold xa_G
      simp [hp, this]
  have dj : ∀ p, xa_D A0 a p → ¬ xa_D B b p := by
    intro p h1 h2
    have := h1.2
    have := h2.1
    omega
  have wa : ∀ p, xa_D A0 a p → xa_D A0 C p := fun p h => ⟨h.1, by have := h.2; omega⟩
  have wb : ∀ p, xa_D B b p → xa_D A0 C p := fun p h => ⟨by have := h.1; omega, by have := h.2; omega⟩
  refine ⟨⟨he, ?_, ?_, ?_⟩, au_c3 dj ia.2 ib.2 hG hL hF he1⟩
  · intro p h
    rcases (hF p).mp h with h | h
    · exact wa _ (ia.2.1 _ h)
    · exact wb _ (ib.2.1 _ h.2)
  · intro p q h
    rcases (hG p q).mp h with h | h | h
    · exact ⟨wa _ (ia.2.2.1 _ _ h).1, wa _ (ia.2.2.1 _ _ h).2⟩
    · exact ⟨wb _ (ib.2.2.1 _ _ h).1, wb _ (ib.2.2.1 _ _ h).2⟩
    · exact ⟨wa _ (ia.2.2.2 _ h.1), wb _ (ib.2.1 _ h.2)⟩
  · intro p h
    rcases (hL p).mp h with h | h
    · exact wb _ (ib.2.2.2 _ h)
    · exact wa _ (ia.2.2.2 _ h.2)
theorem xe_catC {A0 B a b C : Nat} {em fi la fo fi' la' fo1 le : Nat → Int32} {l r at' : Nat} (hAB : A0 ≤ a) (hab : a < B) (hB : B ≤ b) (hbC : b < C) (hC : C < 12)
    (ia : xa_In A0 a em fi la fo l) (ib : xa_In B b em fi la fo r)
    (hf : fi' at' = fi l ||| (if em l = 1 then fi r else 0)) (hl : la' at' = la r ||| (if em r = 1 then la l else 0))
    (hg : ∀ q, q < 12 → fo1 (at' * 12 + q) = fo (l * 12 + q) ||| fo (r * 12 + q)) (n : Nat) :
    pd_Cl (fun p => xa_F fi' at' p ∧ p < B) (fun p => xa_F fi' at' p ∧ ¬ p < B) (xa_G fo1 at') (xa_J (la l) (fi r)) (xa_L la' at') (xa_rd le) n ↔
      ∃ w, w.length ≤ n ∧ wo_Am (xa_An em fi la fo le l) (xa_An em fi la fo le r) w := by
  have hG := xe_G hg
  have hF : ∀ p, xa_F fi' at' p ↔ xa_F fi l p ∨ (em l = 1 ∧ xa_F fi r p) := by
    intro p
    unfold xa_F
    rw [hf, b_or, Bool.or_eq_true]
    by_cases h : em l = 1
    · rw [if_pos h]; simp [h]
    · rw [if_neg h, b_0]; simp [h]
  have hL : ∀ p, xa_L la' at' p ↔ xa_L la r p ∨ (em r = 1 ∧ xa_L la l p) := by
    intro p
    unfold xa_L
    rw [hl, b_or, Bool.or_eq_true]
    by_cases h : em r = 1
    · rw [if_pos h]; simp [h]
    · rw [if_neg h, b_0]; simp [h]
  have dj : ∀ p, xa_D A0 a p → ¬ xa_D B b p := by
    intro p h1 h2
    have := h1.2
    have := h2.1
    omega
  refine pd_cat dj ia.2 ib.2 hG ?_ hL ?_ ?_ n
  · intro p q
    constructor
    · intro h; exact ⟨h.2.1, h.2.2⟩
    · intro h
      have := (ia.2.2.2 _ h.1).2
      exact ⟨by omega, h.1, h.2⟩
  · intro p
    rw [hF]
    constructor
    · rintro ⟨h | h, hp⟩
      · exact h
      · have := (ib.2.1 _ h.2).1
        omega
    · intro h
      have := (ia.2.1 _ h).2
      exact ⟨Or.inl h, by omega⟩
  · intro p
    rw [hF]
    constructor
    · rintro ⟨h | h, hp⟩
      · have := (ia.2.1 _ h).2
        omega
      · exact h
    · intro h
      have := (ib.2.1 _ h.2).1
      exact ⟨Or.inr h, by omega⟩
/-- again and again -/
theorem xe_ite {A0 a C : Nat} {em fi la fo em' fi' la' fo1 fo2 le : Nat → Int32} {l at' : Nat} (hAB : A0 ≤ a) (hbC : a < C) (hC : C < 12)
    (ia : xa_In A0 a em fi la fo l) (h0 : em l = 0) (he : em' at' = 1)
    (hf : fi' at' = fi l ||| fi l) (hl : la' at' = la l ||| la l)
    (hg : ∀ q, q < 12 → fo1 (at' * 12 + q) = fo (l * 12 + q) ||| fo (l * 12 + q))
    (hg2 : ∀ q, q < 12 → fo2 (at' * 12 + q) = fo1 (at' * 12 + q) ||| (if bt (la' at') q = true then fi' at' else 0)) :
    xa_In A0 C em' fi' la' fo2 at' ∧ (∀ w, xa_An em' fi' la' fo2 le at' w ↔ w = [] ∨ wo_Sp (xa_An em fi la fo le l) (xa_An em' fi' la' fo2 le at') w) ∧
    ∀ n, (pd_Cl (fun p => xa_F fi' at' p ∧ p < 0) (fun p => xa_F fi' at' p ∧ ¬ p < 0) (xa_G fo1 at') (xa_J (la' at') (fi' at')) (xa_L la' at') (xa_rd le) n ↔
      ∃ w, w.length ≤ n ∧ wo_Am (xa_An em fi la fo le l) (xa_An em' fi' la' fo2 le at') w) := by
  have hF : ∀ p, xa_F fi' at' p ↔ xa_F fi l p := by
    intro p
    unfold xa_F
    rw [hf, b_or, Bool.or_self]
  have hL : ∀ p, xa_L la' at' p ↔ xa_L la l p := by
    intro p
    unfold xa_L
    rw [hl, b_or, Bool.or_self]
  have hG1 : ∀ p q, xa_G fo1 at' p q ↔ xa_G fo l p q := by
    intro p q
    rw [xe_G hg, or_self]
  have hG : ∀ p q, xa_G fo2 at' p q ↔ xa_G fo l p q ∨ (xa_L la l p ∧ xa_F fi l q) := by
    intro p q
    rw [← hL, ← hF, ← hG1]
    by_cases hp : p < 12
    · unfold xa_G xa_L xa_F
      rw [hg2 p hp, b_or, Bool.or_eq_true]
      by_cases h : bt (la' at') p = true
      · rw [if_pos h]; simp [h, hp]
      · rw [if_neg h, b_0]; simp [h, hp]
    · have : ¬ xa_L la' at' p := by
        intro h
        have := (ia.2.2.2 _ ((hL p).mp h)).2
        omega
      unfold xa_G
      simp [hp, this]
  have wa : ∀ p, xa_D A0 a p → xa_D A0 C p := fun p h => ⟨h.1, by have := h.2; omega⟩
  have nE : ¬ em l = 1 := by rw [h0]; decide
  refine ⟨⟨Or.inr he, ?_, ?_, ?_⟩, au_i2 he nE hF hG hL, ?_⟩
  · intro p h
    exact wa _ (ia.2.1 _ ((hF p).mp h))
  · intro p q h
    rcases (hG p q).mp h with h | h
    · exact ⟨wa _ (ia.2.2.1 _ _ h).1, wa _ (ia.2.2.1 _ _ h).2⟩
    · exact ⟨wa _ (ia.2.2.2 _ h.1), wa _ (ia.2.1 _ h.2)⟩
  · intro p h
    exact wa _ (ia.2.2.2 _ ((hL p).mp h))
  · refine pd_ite he nE hF hG hL hG1 ?_ ?_ ?_
    · intro p q
      rw [← hL, ← hF]
      constructor
      · intro h; exact ⟨h.2.1, h.2.2⟩
      · intro h
        have := (ia.2.2.2 _ ((hL p).mp h.1)).2
        exact ⟨by omega, h.1, h.2⟩
    · rintro p ⟨_, h⟩
      omega
    · intro p
      rw [hF]
      exact ⟨fun h => h.1, fun h => ⟨h, by omega⟩⟩
end XE
end
section
section XW
variable {xl xm xc xn xd xt : Int32} {kd ag st le ll lc em fi la fo pr fr wd sz ot tN tL tH tO tP : Nat → Int32} {post : SX → Prop} {qost : Int32 → SX → Prop} {rost : Int32 → Prop}
theorem xw_nb {r : Int32} (h : r = 0 ∨ r = 1) : narrow .boolean (.int r) = .int r := by rcases h with rfl | rfl <;> rfl
def xw_Out (r : Int32) (P : Prop) : Prop := (r = 1 ∧ P) ∨ (r = 0 ∧ ¬ P)
theorem xw_136 {A0 B a b C N l r A : Nat} (hN : N ≤ 6) (hAB : A0 ≤ a) (hab : a < B) (hB : B ≤ b) (hbC : b < C) (hC : C < 12) (hA : A < 24) (hl : l < 24) (hr : r < 24) (hlA : l ≠ A) (hrA : r ≠ A)
    (hle : xa_Le le) (hst : st b = nI B) {z0 : Int32} {em0 fi0 la0 : Nat → Int32} (ia : xa_In A0 a em0 fi0 la0 fo l) (ib : xa_In B b em0 fi0 la0 fo r)
    (hf0 : ∀ j, j ≠ A → em j = em0 j ∧ fi j = fi0 j ∧ la j = la0 j)
    (he : em A = 0 ∨ em A = 1) (he1 : em A = 1 ↔ em0 l = 1 ∧ em0 r = 1) (hf : fi A = fi0 l ||| (if em0 l = 1 then fi0 r else 0)) (hz : z0 = if em0 r = 1 then la0 l else 0)
    (hg : ∀ q, q < 12 → fo (A * 12 + q) = fo (l * 12 + q) ||| fo (r * 12 + q))
    (H : ∀ (v : Int32) (em' fi' la' fo' pr' fr' : Nat → Int32), xe_Fr A em0 fi0 la0 fo em' fi' la' fo' → xa_In A0 C em' fi' la' fo' A →
      (∀ w, xa_An em' fi' la' fo' le A w ↔ wo_Sp (xa_An em0 fi0 la0 fo le l) (xa_An em0 fi0 la0 fo le r) w) →
      xw_Out v (∃ w, w.length ≤ N ∧ wo_Am (xa_An em0 fi0 la0 fo le l) (xa_An em0 fi0 la0 fo le r) w) → qost v (nI N, xm, xc, xn, xd, xt, kd, ag, st, le, ll, lc, em', fi', la', fo', pr', fr', wd, sz, ot, tN, tL, tH, tO, tP)) :
    wX_concatClashes_136 qost (nI b) (nI A) (nI l) (nI r) z0 (la r) (nI A) (nI N) xm xc xn xd xt kd ag st le ll lc em fi la fo pr fr wd sz ot tN tL tH tO tP := by
  unfold wX_concatClashes_136
  rw [xs_cl (by omega : A < 4096), xs_cl (by omega : l < 4096), xs_cl (by omega : r < 4096), xs_cl (by omega : b < 4096)]
  have iA : vp_in (nI A) 24 := xs_in hA (by omega)
  have il : vp_in (nI l) 24 := xs_in hl (by omega)
  have ir : vp_in (nI r) 24 := xs_in hr (by omega)
  have el : la l = la0 l := (hf0 l hlA).2.2
  have er : la r = la0 r := (hf0 r hrA).2.2
  have ef : fi r = fi0 r := (hf0 r hrA).2.1
  refine ⟨iA, fun la2 e2 => ⟨il, ir, xs_in (by omega) (by omega), ?_⟩⟩
  have e2l : la2 l = la0 l := by rw [e2, nu_un hlA, el]
  have e2A : la2 A = la0 r ||| (if em0 r = 1 then la0 l else 0) := by rw [e2, nu_us, er, hz]
  have e2j : ∀ j, j ≠ A → la2 j = la0 j := fun j hj => by rw [e2, nu_un hj, (hf0 j hj).2.2]
  rw [e2l, ef, hst]
  have ha12 : ∀ q, xa_D A0 a q → q < 12 := fun q h => by have := h.2; omega
  have hb12 : ∀ q, xa_D B b q → q < 12 := fun q h => by have := h.2; omega
  have cl := xe_catC (fi' := fi) (la' := la2) (le := le) hAB hab hB hbC hC ia ib hf e2A hg N
  have lk : ∀ (v : Int32) (pr' fr' : Nat → Int32), (v = 0 ∨ v = 1) → xw_Out v (∃ w, w.length ≤ N ∧ wo_Am (xa_An em0 fi0 la0 fo le l) (xa_An em0 fi0 la0 fo le r) w) →
      (vp_in (nI l) 24 ∧ (vp_in (nI r) 24 ∧ wpX_link (fun u => match u with | (xl, xm, xc, xn, xd, xt, kd, ag, st, le, ll, lc, em, fi, la, fo, pr, fr, wd, sz, ot, tN, tL, tH, tO, tP) => (narrow .boolean (.int v) = .int v ∧ qost v (xl, xm, xc, xn, xd, xt, kd, ag, st, le, ll, lc, em, fi, la, fo, pr, fr, wd, sz, ot, tN, tL, tH, tO, tP))) (nI N, xm, xc, xn, xd, xt, kd, ag, st, le, ll, lc, em, fi, la2, fo, pr', fr', wd, sz, ot, tN, tL, tH, tO, tP) (nI A) (la2 l) (fi r))) := by
    intro v pr' fr' hv ho
    refine ⟨il, ir, ?_⟩
    rw [e2l, ef]
    refine xs_link hA _ _ fun fo' h1 h2 => ⟨xw_nb hv, ?_⟩
    have ct := xe_cat (em' := em) (fi' := fi) (la' := la2) (le := le) (fo2 := fo') (N := N) hAB hab hB hbC hC ia ib he he1 hf e2A hg h2
    exact H v em fi la2 fo' pr' fr' ⟨fun j hj => ⟨(hf0 j hj).1, (hf0 j hj).2.1, e2j j hj⟩, h1⟩ ct.1 ct.2 ho
  refine xd_clash hN hA (by omega) hle ?_ ?_ ?_ ?_ ?_ ?_
  · intro q h
    unfold xa_F at h
    rw [hf, b_or, Bool.or_eq_true] at h
    rcases h with h | h
    · exact ha12 q (ia.2.1 _ h)
    · by_cases hx : em0 l = 1
      · rw [if_pos hx] at h
        exact hb12 q (ib.2.1 _ h)
      · rw [if_neg hx, b_0] at h
        exact absurd h (by decide)
  · intro p q h
    rcases (xe_G hg p q).mp h with h | h
    · exact ha12 q (ia.2.2.1 _ _ h).2
    · exact hb12 q (ib.2.2.1 _ _ h).2
  · intro q h
    exact hb12 q (ib.2.1 _ h)
  · intro q h
    unfold xa_L at h
    rw [e2A, b_or, Bool.or_eq_true] at h
    rcases h with h | h
    · exact hb12 q (ib.2.2.2 _ h)
    · by_cases hx : em0 r = 1
      · rw [if_pos hx] at h
        exact ha12 q (ia.2.2.2 _ h)
      · rw [if_neg hx, b_0] at h
        exact absurd h (by decide)
  · intro h pr' fr'
    exact lk 1 pr' fr' (Or.inr rfl) (Or.inl ⟨rfl, cl.mp h⟩)
  · intro h pr' fr'
    exact lk 0 pr' fr' (Or.inl rfl) (Or.inr ⟨rfl, fun hh => h (cl.mpr hh)⟩)
theorem xw_65 {A0 B a b C N l r A : Nat} (hN : N ≤ 6) (hAB : A0 ≤ a) (hab : a < B) (hB : B ≤ b) (hbC : b < C) (hC : C < 12) (hA : A < 24) (hl : l < 24) (hr : r < 24) (hlA : l ≠ A) (hrA : r ≠ A)
    (hle : xa_Le le) (hst : st b = nI B) {z : Int32} (ia : xa_In A0 a em fi la fo l) (ib : xa_In B b em fi la fo r)
    (hz : z = 0 ∨ z = 1) (hz1 : z = 1 ↔ em l = 1 ∧ em r = 1)
    (hg : ∀ q, q < 12 → fo (A * 12 + q) = fo (l * 12 + q) ||| fo (r * 12 + q))
    (H : ∀ (v : Int32) (em' fi' la' fo' pr' fr' : Nat → Int32), xe_Fr A em fi la fo em' fi' la' fo' → xa_In A0 C em' fi' la' fo' A →
      (∀ w, xa_An em' fi' la' fo' le A w ↔ wo_Sp (xa_An em fi la fo le l) (xa_An em fi la fo le r) w) →
      xw_Out v (∃ w, w.length ≤ N ∧ wo_Am (xa_An em fi la fo le l) (xa_An em fi la fo le r) w) → qost v (nI N, xm, xc, xn, xd, xt, kd, ag, st, le, ll, lc, em', fi', la', fo', pr', fr', wd, sz, ot, tN, tL, tH, tO, tP)) :
    wX_concatClashes_65 qost (nI b) (nI A) (nI l) (nI r) z (nI A) (nI N) xm xc xn xd xt kd ag st le ll lc em fi la fo pr fr wd sz ot tN tL tH tO tP := by
  unfold wX_concatClashes_65 wX_concatClashes_100
  rw [xs_cl (by omega : A < 4096), xs_cl (by omega : l < 4096), xs_cl (by omega : r < 4096)]
  have iA : vp_in (nI A) 24 := xs_in hA (by omega)
  have il : vp_in (nI l) 24 := xs_in hl (by omega)
  have ir : vp_in (nI r) 24 := xs_in hr (by omega)
  have h10 : ¬ (1 : Int32) = 0 := by decide
  have h01 : ¬ (0 : Int32) = 1 := by decide
  have ez : vp_nar .boolean z = z := by rcases hz with rfl | rfl <;> decide
  rw [ez]
  refine ⟨iA, fun em2 e2 => ⟨il, il, ?_⟩⟩
  have e2j : ∀ j, j ≠ A → em2 j = em j := fun j hj => by rw [e2, nu_un hj]
  have e2A : em2 A = z := by rw [e2, nu_us]
  have fin : ∀ fi2 : Nat → Int32, ∀ z0 : Int32, (∀ j, j ≠ A → fi2 j = fi j) → fi2 A = fi l ||| (if em l = 1 then fi r else 0) → (z0 = if em r = 1 then la l else 0) →
      wX_concatClashes_136 qost (nI b) (nI A) (nI l) (nI r) z0 (la r) (nI A) (nI N) xm xc xn xd xt kd ag st le ll lc em2 fi2 la fo pr fr wd sz ot tN tL tH tO tP := by
    intro fi2 z0 hj hA2 hz0
    refine xw_136 hN hAB hab hB hbC hC hA hl hr hlA hrA hle hst ia ib (fun j h => ⟨e2j j h, hj j h, rfl⟩) ?_ ?_ hA2 hz0 hg H
    · rw [e2A]; exact hz
    · rw [e2A]; exact hz1
  have mid : ∀ fi2 : Nat → Int32, (∀ j, j ≠ A → fi2 j = fi j) → fi2 A = fi l ||| (if em l = 1 then fi r else 0) →
      (vp_in (nI r) 24 ∧ (vp_in (nI r) 24 ∧ ((em2 r = 0 → wX_concatClashes_136 qost (nI b) (nI A) (nI l) (nI r) 0 (la r) (nI A) (nI N) xm xc xn xd xt kd ag st le ll lc em2 fi2 la fo pr fr wd sz ot tN tL tH tO tP) ∧
        (¬ em2 r = 0 → (vp_in (nI l) 24 ∧ wX_concatClashes_136 qost (nI b) (nI A) (nI l) (nI r) (la l) (la r) (nI A) (nI N) xm xc xn xd xt kd ag st le ll lc em2 fi2 la fo pr fr wd sz ot tN tL tH tO tP))))) := by
    intro fi2 hj hA2
    refine ⟨ir, ir, ?_⟩
    rw [e2j r hrA]
    rcases ib.1 with e | e
    · exact br_t e (fin fi2 0 hj hA2 (by rw [e, if_neg h01]))
    · exact br_f (by rw [e]; exact h10) ⟨il, fin fi2 (la l) hj hA2 (by rw [if_pos e])⟩
  have e2l := e2j l hlA
  rcases ia.1 with e | e
  · refine br_t (by rw [e2l, e]) ⟨iA, fun fi2 e3 => mid fi2 (fun j hj => by rw [e3, nu_un hj]) ?_⟩
    rw [e3, nu_us, e, if_neg h01]
  · refine br_f (by rw [e2l, e]; exact h10) ⟨ir, iA, fun fi2 e3 => mid fi2 (fun j hj => by rw [e3, nu_un hj]) ?_⟩
    rw [e3, nu_us, if_pos e]
theorem xw_cc {s A0 B a b C N : Nat} (hs : s < 2) (hN : N ≤ 6) (hAB : A0 ≤ a) (hab : a < B) (hB : B ≤ b) (hbC : b < C) (hC : C < 12)
    (hle : xa_Le le) (hst : st b = nI B) (ia : xa_In A0 a em fi la fo (s * 12 + a)) (ib : xa_In B b em fi la fo (s * 12 + b))
    (H : ∀ (v : Int32) (em' fi' la' fo' pr' fr' : Nat → Int32), xe_Fr (s * 12 + C) em fi la fo em' fi' la' fo' → xa_In A0 C em' fi' la' fo' (s * 12 + C) →
      (∀ w, xa_An em' fi' la' fo' le (s * 12 + C) w ↔ wo_Sp (xa_An em fi la fo le (s * 12 + a)) (xa_An em fi la fo le (s * 12 + b)) w) →
      xw_Out v (∃ w, w.length ≤ N ∧ wo_Am (xa_An em fi la fo le (s * 12 + a)) (xa_An em fi la fo le (s * 12 + b)) w) → qost v (nI N, xm, nI C, xn, xd, xt, kd, ag, st, le, ll, lc, em', fi', la', fo', pr', fr', wd, sz, ot, tN, tL, tH, tO, tP)) :
    wpX_concatClashes qost (nI N, xm, nI C, xn, xd, xt, kd, ag, st, le, ll, lc, em, fi, la, fo, pr, fr, wd, sz, ot, tN, tL, tH, tO, tP) (nI s) (nI a) (nI b) := by
  unfold wpX_concatClashes wX_concatClashes_64
  dsimp only
  refine nm_r (e' := nI (s * 12 + C)) (by rw [nu_m12, nI_add]) ?_
  refine nm_r (e' := nI (s * 12 + a)) (by rw [nu_m12, nI_add]) ?_
  refine nm_r (e' := nI (s * 12 + b)) (by rw [nu_m12, nI_add]) ?_
  have h10 : ¬ (1 : Int32) = 0 := by decide
  have h01 : ¬ (0 : Int32) = 1 := by decide
  refine xs_merge hs hC (by omega) (by omega) ia.1 ib.1 fun fo1 e he he1 hfr hg => ?_
  dsimp only
  rw [xs_cl (by omega : s * 12 + a < 4096), xs_cl (by omega : s * 12 + b < 4096)]
  have hlA : s * 12 + a ≠ s * 12 + C := by omega
  have hrA : s * 12 + b ≠ s * 12 + C := by omega
  have F1 : xe_Fr (s * 12 + C) em fi la fo (upd em (s * 12 + C) e) (upd fi (s * 12 + C) (fi (s * 12 + a) ||| fi (s * 12 + b))) (upd la (s * 12 + C) (la (s * 12 + a) ||| la (s * 12 + b))) fo1 :=
    ⟨fun j hj => ⟨nu_un hj, nu_un hj, nu_un hj⟩, hfr⟩
  have ia1 := (xe_FrI (lo := A0) (hi := a) F1 hlA).mpr ia
  have ib1 := (xe_FrI (lo := B) (hi := b) F1 hrA).mpr ib
  have ga := xe_FrA (le := le) F1 hlA
  have gb := xe_FrA (le := le) F1 hrA
  have hg1 : ∀ q, q < 12 → fo1 ((s * 12 + C) * 12 + q) = fo1 ((s * 12 + a) * 12 + q) ||| fo1 ((s * 12 + b) * 12 + q) := by
    intro q hq
    rw [hg q hq, hfr ((s * 12 + a) * 12 + q) (by omega), hfr ((s * 12 + b) * 12 + q) (by omega)]
  have go : ∀ z : Int32, (z = 0 ∨ z = 1) → (z = 1 ↔ em (s * 12 + a) = 1 ∧ em (s * 12 + b) = 1) →
      wX_concatClashes_65 qost (nI b) (nI (s * 12 + C)) (nI (s * 12 + a)) (nI (s * 12 + b)) z (nI (s * 12 + C)) (nI N) xm (nI C) xn xd xt kd ag st le ll lc (upd em (s * 12 + C) e) (upd fi (s * 12 + C) (fi (s * 12 + a) ||| fi (s * 12 + b))) (upd la (s * 12 + C) (la (s * 12 + a) ||| la (s * 12 + b))) fo1 pr fr wd sz ot tN tL tH tO tP := by
    intro z hz hz1
    refine xw_65 hN hAB hab hB hbC hC (by omega) (by omega) (by omega) hlA hrA hle hst ia1 ib1 hz ?_ hg1 ?_
    · rw [nu_un hlA, nu_un hrA]
      exact hz1
    · intro v em' fi' la' fo' pr' fr' F2 i2 w2 o2
      rw [ga, gb] at w2 o2
      exact H v em' fi' la' fo' pr' fr' (xe_FrT F1 F2) i2 w2 o2
  refine ⟨xs_in (by omega) (by omega), ?_⟩
  rw [nu_un hlA]
  rcases ia.1 with ea | ea
  · exact br_t ea (go 0 (Or.inl rfl) (by rw [ea]; simp))
  · refine br_f (by rw [ea]; exact h10) ⟨xs_in (by omega) (by omega), ?_⟩
    rw [nu_un hrA]
    rcases ib.1 with eb | eb
    · exact br_t eb (go 0 (Or.inl rfl) (by rw [eb]; simp))
    · exact br_f (by rw [eb]; exact h10) (go 1 (Or.inr rfl) (by rw [ea, eb]; simp))
theorem xw_ic {s A0 a C N : Nat} (hs : s < 2) (hN : N ≤ 6) (hAB : A0 ≤ a) (hbC : a < C) (hC : C < 12)
    (hle : xa_Le le) (ia : xa_In A0 a em fi la fo (s * 12 + a))
    (H : ∀ (v : Int32) (em' fi' la' fo' pr' fr' : Nat → Int32), xe_Fr (s * 12 + C) em fi la fo em' fi' la' fo' → (em (s * 12 + a) = 1 → v = 1) →
      (em (s * 12 + a) = 0 → xa_In A0 C em' fi' la' fo' (s * 12 + C) ∧
        (∀ w, xa_An em' fi' la' fo' le (s * 12 + C) w ↔ w = [] ∨ wo_Sp (xa_An em fi la fo le (s * 12 + a)) (xa_An em' fi' la' fo' le (s * 12 + C)) w) ∧
        xw_Out v (∃ w, w.length ≤ N ∧ wo_Am (xa_An em fi la fo le (s * 12 + a)) (xa_An em' fi' la' fo' le (s * 12 + C)) w)) →
      qost v (nI N, xm, nI C, xn, xd, xt, kd, ag, st, le, ll, lc, em', fi', la', fo', pr', fr', wd, sz, ot, tN, tL, tH, tO, tP)) :
    wpX_iterateClashes qost (nI N, xm, nI C, xn, xd, xt, kd, ag, st, le, ll, lc, em, fi, la, fo, pr, fr, wd, sz, ot, tN, tL, tH, tO, tP) (nI s) (nI a) := by
  unfold wpX_iterateClashes wX_iterateClashes_47 wX_iterateClashes_52
  dsimp only
  refine nm_r (e' := nI (s * 12 + C)) (by rw [nu_m12, nI_add]) ?_
  have h10 : ¬ (1 : Int32) = 0 := by decide
  have h01 : ¬ (0 : Int32) = 1 := by decide
  refine xs_merge hs hC (by omega) (by omega) ia.1 ia.1 fun fo1 e he he1 hfr hg => ?_
  dsimp only
  rw [xs_cl (by omega : s * 12 + C < 4096), nu_us, nu_us, nu_us, nu_b1]
  rw [or_self] at he1
  have hlA : s * 12 + a ≠ s * 12 + C := by omega
  have iA : vp_in (nI (s * 12 + C)) 24 := xs_in (by omega) (by omega)
  have F1 : xe_Fr (s * 12 + C) em fi la fo (upd em (s * 12 + C) e) (upd fi (s * 12 + C) (fi (s * 12 + a) ||| fi (s * 12 + a))) (upd la (s * 12 + C) (la (s * 12 + a) ||| la (s * 12 + a))) fo1 :=
    ⟨fun j hj => ⟨nu_un hj, nu_un hj, nu_un hj⟩, hfr⟩
  refine ⟨iA, ?_⟩
  rcases ia.1 with ea | ea
  · have e0 : e = 0 := by
      rcases he with h | h
      · exact h
      · have := he1.mp h
        rw [ea] at this
        exact absurd this h01
    refine br_t e0 ⟨iA, iA, ?_⟩
    have ha12 : ∀ q, xa_D A0 a q → q < 12 := fun q h => by have := h.2; omega
    have lk : ∀ (v : Int32) (pr' fr' : Nat → Int32), (v = 0 ∨ v = 1) →
        xw_Out v (pd_Cl (fun p => xa_F (upd fi (s * 12 + C) (fi (s * 12 + a) ||| fi (s * 12 + a))) (s * 12 + C) p ∧ p < 0) (fun p => xa_F (upd fi (s * 12 + C) (fi (s * 12 + a) ||| fi (s * 12 + a))) (s * 12 + C) p ∧ ¬ p < 0)
          (xa_G fo1 (s * 12 + C)) (xa_J (la (s * 12 + a) ||| la (s * 12 + a)) (fi (s * 12 + a) ||| fi (s * 12 + a))) (xa_L (upd la (s * 12 + C) (la (s * 12 + a) ||| la (s * 12 + a))) (s * 12 + C)) (xa_rd le) N) →
        (vp_in (nI (s * 12 + C)) 24 ∧ (vp_in (nI (s * 12 + C)) 24 ∧ wpX_link (fun u => match u with | (xl, xm, xc, xn, xd, xt, kd, ag, st, le, ll, lc, em9, fi, la, fo, pr, fr, wd, sz, ot, tN, tL, tH, tO, tP) => (vp_in (nI (s * 12 + C)) 24 ∧ ∀ em8 : Nat → Int32, em8 = upd em9 (s * 12 + C) 1 → (narrow .boolean (.int v) = .int v ∧ qost v (xl, xm, xc, xn, xd, xt, kd, ag, st, le, ll, lc, em8, fi, la, fo, pr, fr, wd, sz, ot, tN, tL, tH, tO, tP))))
          (nI N, xm, nI C, xn, xd, xt, kd, ag, st, le, ll, lc, upd em (s * 12 + C) e, upd fi (s * 12 + C) (fi (s * 12 + a) ||| fi (s * 12 + a)), upd la (s * 12 + C) (la (s * 12 + a) ||| la (s * 12 + a)), fo1, pr', fr', wd, sz, ot, tN, tL, tH, tO, tP) (nI (s * 12 + C))
          ((upd la (s * 12 + C) (la (s * 12 + a) ||| la (s * 12 + a))) (s * 12 + C)) ((upd fi (s * 12 + C) (fi (s * 12 + a) ||| fi (s * 12 + a))) (s * 12 + C)))) := by
      intro v pr' fr' hv ho
      refine ⟨iA, iA, ?_⟩
      rw [nu_us, nu_us]
      refine xs_link (by omega) _ _ fun fo2 h1 h2 => ⟨iA, fun em8 e8 => ⟨xw_nb hv, ?_⟩⟩
      have e8j : ∀ j, j ≠ s * 12 + C → em8 j = em j := fun j hj => by rw [e8, nu_un hj, nu_un hj]
      have e8A : em8 (s * 12 + C) = 1 := by rw [e8, nu_us]
      have ct := xe_ite (le := le) (em' := em8) (fi' := upd fi (s * 12 + C) (fi (s * 12 + a) ||| fi (s * 12 + a))) (la' := upd la (s * 12 + C) (la (s * 12 + a) ||| la (s * 12 + a))) (fo1 := fo1) (fo2 := fo2) (at' := s * 12 + C)
        hAB hbC hC ia ea e8A nu_us nu_us hg (by rw [nu_us, nu_us]; exact h2)
      refine H v em8 _ _ fo2 pr' fr' (xe_FrT F1 ⟨fun j hj => ⟨by rw [e8j j hj, nu_un hj], rfl, rfl⟩, h1⟩) (fun hx => by rw [ea] at hx; exact absurd hx h01) fun _ => ⟨ct.1, ct.2.1, ?_⟩
      have c3 := ct.2.2 N
      rw [nu_us, nu_us] at c3
      rcases ho with ⟨a1, a2⟩ | ⟨a1, a2⟩
      · exact Or.inl ⟨a1, c3.mp a2⟩
      · exact Or.inr ⟨a1, fun hh => a2 (c3.mpr hh)⟩
    refine xd_clash (B := 0) hN (by omega) (by omega) hle ?_ ?_ ?_ ?_ ?_ ?_
    · intro q h
      unfold xa_F at h
      rw [nu_us, b_or, Bool.or_self] at h
      exact ha12 q (ia.2.1 _ h)
    · intro p q h
      rcases (xe_G hg p q).mp h with h | h
      · exact ha12 q (ia.2.2.1 _ _ h).2
      · exact ha12 q (ia.2.2.1 _ _ h).2
    · intro q h
      rw [b_or, Bool.or_self] at h
      exact ha12 q (ia.2.1 _ h)
    · intro q h
      unfold xa_L at h
      rw [nu_us, b_or, Bool.or_self] at h
      exact ha12 q (ia.2.2.2 _ h)
    · intro h pr' fr'
      exact br_f h10 (lk 1 pr' fr' (Or.inr rfl) (Or.inl ⟨rfl, h⟩))
    · intro h pr' fr'
      exact br_t rfl (lk 0 pr' fr' (Or.inl rfl) (Or.inr ⟨rfl, h⟩))
  · have e1 : e = 1 := he1.mpr ea
    refine br_f (by rw [e1]; exact h10) ⟨iA, iA, ?_⟩
    refine xs_link (by omega) _ _ fun fo2 h1 h2 => ⟨iA, fun em8 e8 => ⟨xw_nb (Or.inr rfl), ?_⟩⟩
    refine H 1 em8 _ _ fo2 _ _ (xe_FrT F1 ⟨fun j hj => ⟨by rw [e8, nu_un hj], rfl, rfl⟩, h1⟩) (fun _ => rfl) fun hx => ?_
    rw [ea] at hx
    exact absurd hx h10
end XW
end
section
section XF
def xf_f (wd : Nat → Int32) (s : Nat) : Nat → Nat := fun j => (wd (s * 6 + j)).toNatClampNeg
def xf_W (wd : Nat → Int32) : Prop := ∀ j, j < 12 → ∃ c, c < 3 ∧ wd j = nI c
theorem xf_w {wd : Nat → Int32} (h : xf_W wd) {s j : Nat} (hs : s < 2) (hj : j < 6) : xf_f wd s j < 3 ∧ wd (s * 6 + j) = nI (xf_f wd s j) := by
  obtain ⟨c, hc, e⟩ := h (s * 6 + j) (by omega)
  unfold xf_f
  rw [e, xs_cl (by omega)]
  exact ⟨hc, rfl⟩
theorem xf_V {wd : Nat → Int32} (h : xf_W wd) {s lo n : Nat} (hs : s < 2) (hj : lo + n ≤ 6) : wo_V (wo_sg (xf_f wd s) lo n) :=
  wo_sgV fun i _ h2 => (xf_w h hs (by omega)).1
theorem xf_m {c : Nat} (hc : c < 3) (x : Int32) : (¬ x &&& ((1 : Int32) <<< (nI c &&& 31)) = 0) ↔ bt x c = true := by
  rw [bi_and0]
  constructor
  · intro h
    obtain ⟨i, hi⟩ := Classical.not_forall.mp h
    have hi := Classical.not_not.mp hi
    rw [bi_sh1 (by omega)] at hi
    have := of_decide_eq_true hi.2
    subst this
    exact hi.1
  · intro h hh
    refine hh c ⟨h, ?_⟩
    rw [bi_sh1 (by omega)]
    exact decide_eq_true rfl
variable {xl xm xc xn xd xt : Int32} {kd ag st le ll lc em fi la fo pr fr wd sz ot tN tL tH tO tP : Nat → Int32} {post : SX → Prop} {qost : Int32 → SX → Prop} {rost : Int32 → Prop}
theorem xf_ix {s j : Nat} (hs : s < 2) (hj : j < 6) : (nI s * 6 + nI j).toNatClampNeg = s * 6 + j := by
  rw [nu_m6, nI_add, xs_cl (by omega)]
theorem xf_iv {s j : Nat} (hs : s < 2) (hj : j < 6) : vp_in (nI s * 6 + nI j) 12 := by
  rw [nu_m6, nI_add]
  exact xs_in (by omega) (by omega)
theorem xf_accL {s hi A : Nat} (h6 : hi ≤ 6) (hs : s < 2) (hA : A < 24) (hw : xf_W wd) (hG : ∀ p q, xa_G fo A p q → q < 12) : ∀ (m k n : Nat) (live : Int32), k + m = hi → m < n →
    (∀ p, bt live p = true → p < 12) →
    ((∃ p, bt live p = true ∧ au_Ac (xa_G fo A) (xa_L la A) (xa_rd le) (wo_sg (xf_f wd s) k m) p) → rost 1) →
    ((¬ ∃ p, bt live p = true ∧ au_Ac (xa_G fo A) (xa_L la A) (xa_rd le) (wo_sg (xf_f wd s) k m) p) → rost 0) →
    wX_accepts_53 rost (nI s) (nI hi) (nI A) xl xm xc xn xd xt kd ag st le ll lc em fi la fo pr fr wd sz ot tN tL tH tO tP n live (nI k) := by
  intro m
  induction m with
  | zero =>
    intro k n live hk hn hlv H1 H0
    obtain ⟨n, rfl⟩ : ∃ m, n = m + 1 := ⟨n - 1, by omega⟩
    obtain rfl : k = hi := by omega
    refine br_t (nI_le (by omega) (by omega)) ⟨xs_in hA (by omega), ?_⟩
    by_cases hz : live &&& la (nI A).toNatClampNeg = 0
    · refine br_t hz (H0 ?_)
      rw [xs_cl (by omega)] at hz
      rintro ⟨p, h1, h2⟩
      exact (bi_and0 _ _).mp hz p ⟨h1, h2⟩
    · refine br_f hz (H1 ?_)
      rw [xs_cl (by omega)] at hz
      obtain ⟨q, hq⟩ := Classical.not_forall.mp fun h => hz ((bi_and0 _ _).mpr h)
      have hq := Classical.not_not.mp hq
      exact ⟨q, hq.1, hq.2⟩
  | succ m ih =>
    intro k n live hk hn hlv H1 H0
    obtain ⟨n, rfl⟩ : ∃ m, n = m + 1 := ⟨n - 1, by omega⟩
    refine br_f (nI_ge (by omega) (by omega)) ?_
    refine xs_succ hA live fun r1 hr1 => ⟨xf_iv hs (by omega), ?_⟩
    rw [xf_ix hs (by omega), (xf_w hw hs (by omega)).2]
    have hc := (xf_w hw hs (by omega : k < 6)).1
    refine xs_readers _ _ fun r2 hr2 => nm_r (nI_1 k) ?_
    have key : (∃ p, bt live p = true ∧ au_Ac (xa_G fo A) (xa_L la A) (xa_rd le) (wo_sg (xf_f wd s) k (m + 1)) p) ↔
        ∃ p, bt r2 p = true ∧ au_Ac (xa_G fo A) (xa_L la A) (xa_rd le) (wo_sg (xf_f wd s) (k + 1) m) p := by
      constructor
      · rintro ⟨p, h1, q, h2, h3, h4⟩
        refine ⟨q, (hr2 q).mpr ⟨hG p q h2, (hr1 q).mpr ⟨p, h2.1, h1, h2.2⟩, ?_⟩, h4⟩
        exact (xf_m hc _).mpr h3.2
      · rintro ⟨q, h1, h2⟩
        obtain ⟨h3, h4, h5⟩ := (hr2 q).mp h1
        obtain ⟨p, h6, h7, h8⟩ := (hr1 q).mp h4
        exact ⟨p, h7, q, ⟨h6, h8⟩, ⟨hc, (xf_m hc _).mp h5⟩, h2⟩
    exact ih (k + 1) n r2 (by omega) (by omega) (fun p h => ((hr2 p).mp h).1) (fun h => H1 (key.mpr h)) fun h => H0 fun hh => h (key.mp hh)
theorem xf_acc {s i lo hi : Nat} (h6 : hi ≤ 6) (hs : s < 2) (hi12 : i < 12) (hlo : lo ≤ 6) (hw : xf_W wd) {A0 : Nat} (ia : xa_In A0 i em fi la fo (s * 12 + i))
    (H1 : xa_An em fi la fo le (s * 12 + i) (wo_sg (xf_f wd s) lo (hi - lo)) → rost 1)
    (H0 : ¬ xa_An em fi la fo le (s * 12 + i) (wo_sg (xf_f wd s) lo (hi - lo)) → rost 0) :
    wpX_accepts rost (xl, xm, xc, xn, xd, xt, kd, ag, st, le, ll, lc, em, fi, la, fo, pr, fr, wd, sz, ot, tN, tL, tH, tO, tP) (nI s) (nI i) (nI lo) (nI hi) := by
  unfold wpX_accepts
  dsimp only
  refine nm_r (e' := nI (s * 12 + i)) (by rw [nu_m12, nI_add]) ?_
  have iA : vp_in (nI (s * 12 + i)) 24 := xs_in (by omega) (by omega)
  rw [xs_cl (by omega : s * 12 + i < 4096)]
  have hi' : ∀ q, xa_D A0 i q → q < 12 := fun q h => by have := h.2; omega
  rcases Nat.lt_or_ge lo hi with hl | hl
  · refine br_t (nI_lt hl (by omega)) ⟨iA, xf_iv hs (by omega), ?_⟩
    rw [xf_ix hs (by omega), (xf_w hw hs (by omega)).2]
    have hc := (xf_w hw hs (by omega : lo < 6)).1
    obtain ⟨m, rfl⟩ : ∃ m, hi = lo + 1 + m := ⟨hi - (lo + 1), by omega⟩
    rw [show lo + 1 + m - lo = m + 1 by omega] at H1 H0
    refine xs_readers _ _ fun r hr => nm_r (nI_1 lo) ⟨m + 1, ?_⟩
    have key : xa_An em fi la fo le (s * 12 + i) (wo_sg (xf_f wd s) lo (m + 1)) ↔
        ∃ p, bt r p = true ∧ au_Ac (xa_G fo (s * 12 + i)) (xa_L la (s * 12 + i)) (xa_rd le) (wo_sg (xf_f wd s) (lo + 1) m) p := by
      constructor
      · rintro ⟨p, h1, h2, h3⟩
        exact ⟨p, (hr p).mpr ⟨hi' p (ia.2.1 _ h1), h1, (xf_m hc _).mpr h2.2⟩, h3⟩
      · rintro ⟨p, h1, h2⟩
        obtain ⟨h3, h4, h5⟩ := (hr p).mp h1
        exact ⟨p, h4, ⟨hc, (xf_m hc _).mp h5⟩, h2⟩
    exact xf_accL h6 hs (by omega) hw (fun p q h => hi' q (ia.2.2.1 _ _ h).2) m (lo + 1) (m + 1) r (by omega) (by omega) (fun p h => ((hr p).mp h).1)
      (fun h => H1 (key.mpr h)) fun h => H0 fun hh => h (key.mp hh)
  · refine br_f (nI_nlt hl (by omega)) ⟨iA, ?_⟩
    rw [show hi - lo = 0 by omega] at H1 H0
    have h01 : ¬ (0 : Int32) = 1 := by decide
    rcases ia.1 with e | e
    · rw [e]
      exact ⟨rfl, H0 fun h => h01 (e.symm.trans h)⟩
    · rw [e]
      exact ⟨rfl, H1 e⟩
theorem xf_cutL {s h t lo hi : Nat} (h6 : hi ≤ 6) (hs : s < 2) (hh : h < 12) (ht : t < 12) (hw : xf_W wd) {A0 B0 : Nat} (ia : xa_In A0 h em fi la fo (s * 12 + h)) (ib : xa_In B0 t em fi la fo (s * 12 + t)) :
    ∀ (m k n : Nat), k + m = hi → lo ≤ k → m < n →
    (∀ j, k ≤ j → j ≤ hi → (j < hi → xa_An em fi la fo le (s * 12 + h) (wo_sg (xf_f wd s) lo (j - lo)) ∧ xa_An em fi la fo le (s * 12 + t) (wo_sg (xf_f wd s) j (hi - j))) →
      (∀ i, k ≤ i → i < j → ¬ (xa_An em fi la fo le (s * 12 + h) (wo_sg (xf_f wd s) lo (i - lo)) ∧ xa_An em fi la fo le (s * 12 + t) (wo_sg (xf_f wd s) i (hi - i)))) → rost (nI j)) →
    wX_cut_4 rost (nI s) (nI h) (nI t) (nI lo) (nI hi) xl xm xc xn xd xt kd ag st le ll lc em fi la fo pr fr wd sz ot tN tL tH tO tP n (nI k) := by
  intro m
  induction m with
  | zero =>
    intro k n hk hlo hn H
    obtain ⟨n, rfl⟩ : ∃ m, n = m + 1 := ⟨n - 1, by omega⟩
    obtain rfl : k = hi := by omega
    exact br_t (nI_le (by omega) (by omega)) (H k (by omega) (by omega) (fun h => by omega) fun i h1 h2 => by omega)
  | succ m ih =>
    intro k n hk hlo hn H
    obtain ⟨n, rfl⟩ : ∃ m, n = m + 1 := ⟨n - 1, by omega⟩
    have nxt : ¬ (xa_An em fi la fo le (s * 12 + h) (wo_sg (xf_f wd s) lo (k - lo)) ∧ xa_An em fi la fo le (s * 12 + t) (wo_sg (xf_f wd s) k (hi - k))) →
        wX_cut_4 rost (nI s) (nI h) (nI t) (nI lo) (nI hi) xl xm xc xn xd xt kd ag st le ll lc em fi la fo pr fr wd sz ot tN tL tH tO tP n (nI (k + 1)) := by
      intro hno
      refine ih (k + 1) n (by omega) (by omega) (by omega) fun j h1 h2 h3 h4 => H j (by omega) h2 h3 fun i h5 h6 => ?_
      by_cases e : i = k
      · subst e
        exact hno
      · exact h4 i (by omega) h6
    refine br_f (nI_ge (by omega) (by omega)) ?_
    refine xf_acc (by omega) hs hh (by omega) hw ia ?_ ?_
    · intro hx
      refine br_f (by decide) ?_
      refine xf_acc (by omega) hs ht (by omega) hw ib ?_ ?_
      · intro hy
        exact br_f (by decide) (H k (by omega) (by omega) (fun _ => ⟨hx, hy⟩) fun i h1 h2 => by omega)
      · intro hy
        exact br_t rfl (nm_r (nI_1 k) (nxt fun h => hy h.2))
    · intro hx
      exact br_t rfl (nm_r (nI_1 k) (nxt fun h => hx h.1))
/-- the cut found is the only one -/
theorem xf_cut {s h t lo hi : Nat} (h6 : hi ≤ 6) (hs : s < 2) (hh : h < 12) (ht : t < 12) (hw : xf_W wd) {A0 B0 : Nat} (ia : xa_In A0 h em fi la fo (s * 12 + h)) (ib : xa_In B0 t em fi la fo (s * 12 + t))
    (k : Nat) (hlo : lo ≤ k) (hhi : k ≤ hi)
    (hk : ∀ j, lo ≤ j → j ≤ hi → ((xa_An em fi la fo le (s * 12 + h) (wo_sg (xf_f wd s) lo (j - lo)) ∧ xa_An em fi la fo le (s * 12 + t) (wo_sg (xf_f wd s) j (hi - j))) ↔ j = k))
    (H : rost (nI k)) : wpX_cut rost (xl, xm, xc, xn, xd, xt, kd, ag, st, le, ll, lc, em, fi, la, fo, pr, fr, wd, sz, ot, tN, tL, tH, tO, tP) (nI s) (nI h) (nI t) (nI lo) (nI hi) := by
  refine ⟨hi - lo + 1, xf_cutL h6 hs hh ht hw ia ib (hi - lo) lo _ (by omega) (by omega) (by omega) fun j h1 h2 h3 h4 => ?_⟩
  have : j = k := by
    rcases Nat.lt_or_ge j hi with hj | hj
    · exact (hk j h1 h2).mp (h3 hj)
    · rcases Nat.lt_or_ge k j with h5 | h5
      · exact absurd ((hk k hlo hhi).mpr rfl) (h4 k hlo h5)
      · omega
  rw [this]
  exact H
end XF
end
section
section YS
/-! the shape of the node stack -/
def ys_dp (kd : Nat → Int32) : Nat → Nat
  | 0 => 0
  | n + 1 => if kd n = 0 ∨ kd n = 1 then ys_dp kd n + 1 else if kd n = 3 ∨ kd n = 5 then ys_dp kd n - 1 else ys_dp kd n
def ys_St (kd : Nat → Int32) (sn : Nat → Nat) (i : Nat) : Prop :=
  ((kd i = 0 ∨ kd i = 1) ∧ sn i = i) ∨ ((kd i = 2 ∨ kd i = 4) ∧ 1 ≤ i ∧ sn i = sn (i - 1)) ∨
    ((kd i = 3 ∨ kd i = 5) ∧ 1 ≤ i ∧ 1 ≤ sn (i - 1) ∧ sn i = sn (sn (i - 1) - 1))
theorem ys_dp0 {kd : Nat → Int32} {n : Nat} (h : kd n = 0 ∨ kd n = 1) : ys_dp kd (n + 1) = ys_dp kd n + 1 := by
  simp only [ys_dp, if_pos h]
theorem ys_dp3 {kd : Nat → Int32} {n : Nat} (h : kd n = 3 ∨ kd n = 5) : ys_dp kd (n + 1) = ys_dp kd n - 1 := by
  have h' : ¬ (kd n = 0 ∨ kd n = 1) := by rcases h with h | h <;> rw [h] <;> decide
  simp only [ys_dp, if_neg h', if_pos h]
theorem ys_dp2 {kd : Nat → Int32} {n : Nat} (h : kd n = 2 ∨ kd n = 4) : ys_dp kd (n + 1) = ys_dp kd n := by
  have h' : ¬ (kd n = 0 ∨ kd n = 1) := by rcases h with h | h <;> rw [h] <;> decide
  have h2 : ¬ (kd n = 3 ∨ kd n = 5) := by rcases h with h | h <;> rw [h] <;> decide
  simp only [ys_dp, if_neg h', if_neg h2]
theorem ys_dpC {kd kd' : Nat → Int32} {n : Nat} (h : ∀ i, i < n → kd' i = kd i) : ys_dp kd' n = ys_dp kd n := by
  induction n with
  | zero => rfl
  | succ n ih =>
    simp only [ys_dp]
    rw [ih fun i hi => h i (by omega), h n (by omega)]
theorem ys_main {kd : Nat → Int32} {sn : Nat → Nat} (i : Nat) (h : ∀ j, j ≤ i → ys_St kd sn j) :
    sn i ≤ i ∧ ys_dp kd (i + 1) = ys_dp kd (sn i) + 1 ∧ ∀ j, sn i < j → j ≤ i → ys_dp kd (i + 1) ≤ ys_dp kd j := by
  induction i using Nat.strongRecOn with
  | _ i ih =>
    rcases h i (Nat.le_refl i) with ⟨hk, e⟩ | ⟨hk, h1, e⟩ | ⟨hk, h1, h2, e⟩
    · rw [e]
      exact ⟨Nat.le_refl i, ys_dp0 hk, fun j a b => by omega⟩
    · have ⟨a1, a2, a3⟩ := ih (i - 1) (by omega) fun j hj => h j (by omega)
      rw [show i - 1 + 1 = i by omega] at a2 a3
      rw [e, ys_dp2 hk]
      refine ⟨by omega, a2, fun j b1 b2 => ?_⟩
      by_cases hj : j = i
      · rw [hj]; exact Nat.le_refl _
      · exact a3 j b1 (by omega)
    · have ⟨a1, a2, a3⟩ := ih (i - 1) (by omega) fun j hj => h j (by omega)
      have ⟨b1, b2, b3⟩ := ih (sn (i - 1) - 1) (by omega) fun j hj => h j (by omega)
      rw [show i - 1 + 1 = i by omega] at a2 a3
      rw [show sn (i - 1) - 1 + 1 = sn (i - 1) by omega] at b2 b3
      rw [e, ys_dp3 hk]
      refine ⟨by omega, by omega, fun j c1 c2 => ?_⟩
      by_cases hj : j = i
      · rw [hj]; omega
      · rcases Nat.lt_or_ge (sn (i - 1)) j with h3 | h3
        · have := a3 j h3 (by omega)
          omega
        · by_cases h4 : j = sn (i - 1)
          · rw [h4]; omega
          · have := b3 j c1 (by omega)
            omega
theorem ys_kd {kd : Nat → Int32} {sn : Nat → Nat} {i : Nat} (h : ys_St kd sn i) : kd i = 0 ∨ kd i = 1 ∨ kd i = 2 ∨ kd i = 3 ∨ kd i = 4 ∨ kd i = 5 := by
  rcases h with ⟨h | h, _⟩ | ⟨h | h, _⟩ | ⟨h | h, _⟩ <;> simp [h]
theorem ys_pos {kd : Nat → Int32} {sn : Nat → Nat} {C : Nat} (h : ∀ j, j < C → ys_St kd sn j) (h1 : 1 ≤ C) : 1 ≤ ys_dp kd C := by
  obtain ⟨n, rfl⟩ : ∃ n, C = n + 1 := ⟨C - 1, by omega⟩
  have := (ys_main n fun j hj => h j (by omega)).2.1
  omega
theorem ys_two {kd : Nat → Int32} {sn : Nat → Nat} {C : Nat} (h : ∀ j, j < C → ys_St kd sn j) (h1 : 2 ≤ ys_dp kd C) : 1 ≤ C ∧ 1 ≤ sn (C - 1) ∧ sn (C - 1) ≤ C - 1 := by
  cases C with
  | zero => simp [ys_dp] at h1
  | succ n =>
    have ⟨a, b, _⟩ := ys_main n fun j hj => h j (by omega)
    rw [Nat.add_sub_cancel]
    refine ⟨by omega, ?_, a⟩
    rcases Nat.eq_zero_or_pos (sn n) with h0 | h0
    · rw [h0] at b
      simp only [ys_dp] at b h1
      omega
    · exact h0
theorem ys_bin {kd : Nat → Int32} {sn : Nat → Nat} {i : Nat} (h : ∀ j, j ≤ i → ys_St kd sn j) (hk : kd i = 3 ∨ kd i = 5) : 1 ≤ i ∧ 1 ≤ sn (i - 1) ∧ sn (i - 1) ≤ i - 1 ∧ sn i = sn (sn (i - 1) - 1) ∧ 2 ≤ ys_dp kd i := by
  have hm := ys_main i h
  rcases h i (Nat.le_refl i) with ⟨hk', e⟩ | ⟨hk', h1, e⟩ | ⟨_, h1, h2, e⟩
  · rcases hk with hk | hk <;> rw [hk] at hk' <;> exact absurd hk' (by decide)
  · rcases hk with hk | hk <;> rw [hk] at hk' <;> exact absurd hk' (by decide)
  · have ⟨a, b, _⟩ := ys_main (i - 1) fun j hj => h j (by omega)
    refine ⟨h1, h2, a, e, ?_⟩
    have := hm.2.1
    rw [ys_dp3 hk] at this
    omega
theorem ys_una {kd : Nat → Int32} {sn : Nat → Nat} {i : Nat} (h : ys_St kd sn i) (hk : kd i = 2 ∨ kd i = 4) : 1 ≤ i ∧ sn i = sn (i - 1) := by
  rcases h with ⟨hk', e⟩ | ⟨hk', h1, e⟩ | ⟨hk', h1, h2, e⟩
  · rcases hk with hk | hk <;> rw [hk] at hk' <;> exact absurd hk' (by decide)
  · exact ⟨h1, e⟩
  · rcases hk with hk | hk <;> rw [hk] at hk' <;> exact absurd hk' (by decide)
theorem ys_dpl {kd : Nat → Int32} (n : Nat) : ys_dp kd n ≤ n := by
  induction n with
  | zero => exact Nat.le_refl 0
  | succ n ih =>
    simp only [ys_dp]
    split
    · omega
    · split <;> omega
variable {yz ym yw yc yt yd yo : Int32} {tb yk ya bf yN yV yS : Nat → Int32} {post : SY → Prop} {qost : Int32 → SY → Prop} {rost : Int32 → Prop}
theorem ys_lenL : ∀ (d i n : Nat) (v : List Nat) (c : Nat), i + d = 6 → d < n → wo_V v → v.length ≤ d → rost (nI (c + v.length)) → wY_length_4 rost yz ym yw yc yt yd yo tb yk ya bf yN yV yS n (nI (wo_cd v)) (nI c) (nI i) := by
  intro d
  induction d with
  | zero =>
    intro i n v c hi hn hv hl H
    obtain ⟨n, rfl⟩ : ∃ m, n = m + 1 := ⟨n - 1, by omega⟩
    obtain rfl : i = 6 := by omega
    rw [show v.length = 0 by omega] at H
    exact br_t (by decide) H
  | succ d ih =>
    intro i n v c hi hn hv hl H
    obtain ⟨n, rfl⟩ : ∃ m, n = m + 1 := ⟨n - 1, by omega⟩
    refine br_f (nI_ge (b := 6) (by omega) (by omega)) ?_
    have h6 := (wo_wsLe hv 6).mpr (by omega)
    rw [wo_ws6] at h6
    cases hm : v.length with
    | zero =>
      have : v = [] := List.eq_nil_of_length_eq_zero hm
      subst this
      exact br_t (by decide) (nm_r (nI_1 i) (ih (i + 1) n [] c (by omega) (by omega) hv (by simp) H))
    | succ m =>
      have hne : wo_cd v ≠ 0 := by
        intro h
        rw [wo_z.mp h] at hm
        simp at hm
      refine br_f (by rw [nu_le0 (by omega)]; exact hne) ⟨by decide, ?_⟩
      have e : (nI (wo_cd v) - 1) / 3 = nI (wo_cd (v.take m)) := by
        rw [nu_s1 (by omega), nu_d3 (by omega), ← wo_pre hv (by omega : m < v.length), show v.take (m + 1) = v from List.take_of_length_le (by omega)]
      refine nm_r e (nm_r (nI_1 c) (nm_r (nI_1 i) (ih (i + 1) n _ (c + 1) (by omega) (by omega) (wo_Vt hv m) ?_ ?_)))
      · rw [List.length_take]; omega
      · rw [List.length_take, show c + 1 + min m v.length = c + v.length by omega]
        exact H
theorem ys_len {w : List Nat} (hv : wo_V w) (hl : w.length ≤ 6) (H : rost (nI w.length)) : wpY_length rost (yz, ym, yw, yc, yt, yd, yo, tb, yk, ya, bf, yN, yV, yS) (nI (wo_cd w)) :=
  ⟨7, ys_lenL 6 0 7 w 0 (by omega) (by omega) hv hl (by rw [Nat.zero_add]; exact H)⟩
theorem ys_startL {sn : Nat → Nat} {i : Nat} (hi : i < 12) (h : ∀ j, j ≤ i → ys_St yk sn j) : ∀ (d j n : Nat), j = sn i + d → j ≤ i → d < n → rost (nI (sn i)) →
    wY_start_4 rost yz ym yw yc yt yd yo tb yk ya bf yN yV yS n (nI (ys_dp yk (j + 1) + 1 - ys_dp yk (i + 1))) (nI j) := by
  have hm := ys_main i h
  intro d
  induction d with
  | zero =>
    intro j n hj hji hn H
    obtain ⟨n, rfl⟩ : ∃ m, n = m + 1 := ⟨n - 1, by omega⟩
    have hd : ys_dp yk (i + 1) ≤ ys_dp yk (j + 1) := by
      rcases Nat.lt_or_ge j i with h1 | h1
      · exact hm.2.2 (j + 1) (by omega) (by omega)
      · rw [show j = i by omega]; exact Nat.le_refl _
    have e : j = sn i := by omega
    subst e
    have iv : vp_in (nI (sn i)) 12 := xs_in (by omega) (by omega)
    have cl : (nI (sn i)).toNatClampNeg = sn i := xs_cl (by omega)
    refine br_f (nI_pos (by omega)) ⟨iv, ?_⟩
    have dl := ys_dpl (kd := yk) (sn i)
    have fin : ∀ J : Int32 → Int32 → Prop, wY_start_53 rost J (nI 0) (nI (sn i)) yz ym yw yc yt yd yo tb yk ya bf yN yV yS := fun J => br_t (by decide) H
    have lf : (yk (sn i) = 0 ∨ yk (sn i) = 1) → ∀ J : Int32 → Int32 → Prop, wY_start_27 rost J (nI (ys_dp yk (sn i + 1) + 1 - ys_dp yk (i + 1))) (nI (sn i)) yz ym yw yc yt yd yo tb yk ya bf yN yV yS := by
      intro hk J
      have e1 := ys_dp0 hk
      refine nm_r (e' := nI 0) ?_ ⟨iv, ?_⟩
      · rw [nu_p1 (by omega)]
        congr 1
        omega
      · rw [cl]
        have n3 : ¬ yk (sn i) = 3 := by rcases hk with hk | hk <;> rw [hk] <;> decide
        have n5 : ¬ yk (sn i) = 5 := by rcases hk with hk | hk <;> rw [hk] <;> decide
        exact br_f n3 ⟨iv, br_f n5 (fin J)⟩
    rw [cl]
    rcases h (sn i) hji with ⟨hk, _⟩ | ⟨hk, _⟩ | ⟨hk, _⟩
    · rcases hk with hk | hk
      · exact br_t hk (lf (Or.inl hk) _)
      · exact br_f (by rw [hk]; decide) ⟨iv, br_t hk (lf (Or.inr hk) _)⟩
    · have e1 := ys_dp2 hk
      omega
    · have e1 := ys_dp3 hk
      omega
  | succ d ih =>
    intro j n hj hji hn H
    obtain ⟨n, rfl⟩ : ∃ m, n = m + 1 := ⟨n - 1, by omega⟩
    have hd : ys_dp yk (i + 1) ≤ ys_dp yk (j + 1) := by
      rcases Nat.lt_or_ge j i with h1 | h1
      · exact hm.2.2 (j + 1) (by omega) (by omega)
      · rw [show j = i by omega]; exact Nat.le_refl _
    have hd0 : ys_dp yk (i + 1) ≤ ys_dp yk j := hm.2.2 j (by omega) hji
    have iv : vp_in (nI j) 12 := xs_in (by omega) (by omega)
    have cl : (nI j).toNatClampNeg = j := xs_cl (by omega)
    have dl := ys_dpl (kd := yk) j
    refine br_f (nI_pos (by omega)) ⟨iv, ?_⟩
    have nxt : wY_start_53 rost (wY_start_4 rost yz ym yw yc yt yd yo tb yk ya bf yN yV yS n) (nI (ys_dp yk j + 1 - ys_dp yk (i + 1))) (nI j) yz ym yw yc yt yd yo tb yk ya bf yN yV yS := by
      refine br_f (nI_ne0 (by omega) (by omega)) (nm_r (nu_p1 (by omega)) ?_)
      have := ih (j - 1) n (by omega) (by omega) (by omega) H
      rw [show j - 1 + 1 = j by omega] at this
      exact this
    have fl : ∀ x : Nat, x = ys_dp yk j + 1 - ys_dp yk (i + 1) → ¬ yk j = 3 → ¬ yk j = 5 → wY_start_30 rost (wY_start_4 rost yz ym yw yc yt yd yo tb yk ya bf yN yV yS n) (nI x) (nI j) yz ym yw yc yt yd yo tb yk ya bf yN yV yS := by
      intro x hx n3 n5
      subst hx
      refine ⟨iv, ?_⟩
      rw [cl]
      exact br_f n3 ⟨iv, br_f n5 nxt⟩
    have lf : (yk j = 0 ∨ yk j = 1) → wY_start_27 rost (wY_start_4 rost yz ym yw yc yt yd yo tb yk ya bf yN yV yS n) (nI (ys_dp yk (j + 1) + 1 - ys_dp yk (i + 1))) (nI j) yz ym yw yc yt yd yo tb yk ya bf yN yV yS := by
      intro hk
      have e1 := ys_dp0 hk
      refine nm_r (e' := nI (ys_dp yk j + 1 - ys_dp yk (i + 1))) ?_ (fl _ rfl ?_ ?_)
      · rw [nu_p1 (by omega)]
        congr 1
        omega
      · rcases hk with hk | hk <;> rw [hk] <;> decide
      · rcases hk with hk | hk <;> rw [hk] <;> decide
    rw [cl]
    rcases h j hji with ⟨hk, _⟩ | ⟨hk, _⟩ | ⟨hk, _⟩
    · rcases hk with hk | hk
      · exact br_t hk (lf (Or.inl hk))
      · exact br_f (by rw [hk]; decide) ⟨iv, br_t hk (lf (Or.inr hk))⟩
    · have e1 := ys_dp2 hk
      have n0 : ¬ yk j = 0 := by rcases hk with hk | hk <;> rw [hk] <;> decide
      have n1 : ¬ yk j = 1 := by rcases hk with hk | hk <;> rw [hk] <;> decide
      refine br_f n0 ⟨iv, br_f n1 (fl _ (by rw [e1]) ?_ ?_)⟩
      · rcases hk with hk | hk <;> rw [hk] <;> decide
      · rcases hk with hk | hk <;> rw [hk] <;> decide
    · have e1 := ys_dp3 hk
      have h2 := (ys_bin (fun k hk' => h k (by omega)) hk).2.2.2.2
      have n0 : ¬ yk j = 0 := by rcases hk with hk | hk <;> rw [hk] <;> decide
      have n1 : ¬ yk j = 1 := by rcases hk with hk | hk <;> rw [hk] <;> decide
      refine br_f n0 ⟨iv, br_f n1 ⟨iv, ?_⟩⟩
      rw [cl]
      have up : wY_start_50 rost (wY_start_4 rost yz ym yw yc yt yd yo tb yk ya bf yN yV yS n) (nI (ys_dp yk (j + 1) + 1 - ys_dp yk (i + 1))) (nI j) yz ym yw yc yt yd yo tb yk ya bf yN yV yS := by
        refine nm_r (e' := nI (ys_dp yk j + 1 - ys_dp yk (i + 1))) ?_ nxt
        rw [nI_1]
        congr 1
        omega
      rcases hk with hk | hk
      · exact br_t hk up
      · exact br_f (by rw [hk]; decide) ⟨iv, br_t hk up⟩
theorem ys_start {sn : Nat → Nat} {i : Nat} (hi : i < 12) (h : ∀ j, j ≤ i → ys_St yk sn j) (H : rost (nI (sn i))) : wpY_start rost (yz, ym, yw, yc, yt, yd, yo, tb, yk, ya, bf, yN, yV, yS) (nI i) := by
  have hm := ys_main i h
  refine ⟨i + 1, ?_⟩
  have := ys_startL (rost := rost) (yz := yz) (ym := ym) (yw := yw) (yc := yc) (yt := yt) (yd := yd) (yo := yo) (tb := tb) (ya := ya) (bf := bf) (yN := yN) (yV := yV) (yS := yS) hi h (i - sn i) i (i + 1) (by omega) (by omega) (by omega) H
  rw [show ys_dp yk (i + 1) + 1 - ys_dp yk (i + 1) = 1 by omega] at this
  exact this
theorem ys_start0 (H : rost 0) : wpY_start rost (yz, ym, yw, yc, yt, yd, yo, tb, yk, ya, bf, yN, yV, yS) (-1) := ⟨1, br_t nu_n1 H⟩
/-- start(i - 1), whatever i is -/
theorem ys_startP {sn : Nat → Nat} {i : Nat} (hi : i < 12) (h : ∀ j, j < i → ys_St yk sn j) (H : ∀ r : Int32, (1 ≤ i → r = nI (sn (i - 1))) → rost r) : wpY_start rost (yz, ym, yw, yc, yt, yd, yo, tb, yk, ya, bf, yN, yV, yS) (nI i - 1) := by
  cases i with
  | zero => exact ys_start0 (H 0 fun h => by omega)
  | succ i =>
    rw [nI_pred]
    exact ys_start (by omega) (fun j hj => h j (by omega)) (H _ fun _ => rfl)
theorem ys_depthL {sn : Nat → Nat} {C : Nat} (hC : C ≤ 12) (h : ∀ j, j < C → ys_St yk sn j) : ∀ (d j n : Nat), j + d = C → d < n → rost (nI (ys_dp yk C)) →
    wY_depth_4 rost yz ym yw (nI C) yt yd yo tb yk ya bf yN yV yS n (nI (ys_dp yk j)) (nI j) := by
  intro d
  induction d with
  | zero =>
    intro j n hj hn H
    obtain ⟨n, rfl⟩ : ∃ m, n = m + 1 := ⟨n - 1, by omega⟩
    obtain rfl : j = C := by omega
    exact br_t (nI_le (by omega) (by omega)) H
  | succ d ih =>
    intro j n hj hn H
    obtain ⟨n, rfl⟩ : ∃ m, n = m + 1 := ⟨n - 1, by omega⟩
    have iv : vp_in (nI j) 12 := xs_in (by omega) (by omega)
    have cl : (nI j).toNatClampNeg = j := xs_cl (by omega)
    have nxt := ih (j + 1) n (by omega) (by omega) H
    refine br_f (nI_ge (by omega) (by omega)) ⟨iv, ?_⟩
    rw [cl]
    rcases h j (by omega) with ⟨hk, _⟩ | ⟨hk, _⟩ | ⟨hk, _⟩
    · have e1 := ys_dp0 hk
      have n3 : ¬ yk j = 3 := by rcases hk with hk | hk <;> rw [hk] <;> decide
      have n5 : ¬ yk j = 5 := by rcases hk with hk | hk <;> rw [hk] <;> decide
      have lf : wY_depth_31 rost (wY_depth_4 rost yz ym yw (nI C) yt yd yo tb yk ya bf yN yV yS n) (nI (ys_dp yk j)) (nI j) yz ym yw (nI C) yt yd yo tb yk ya bf yN yV yS := by
        refine nm_r (e' := nI (ys_dp yk (j + 1))) (by rw [nI_1, e1]) ⟨iv, ?_⟩
        rw [cl]
        exact br_f n3 ⟨iv, br_f n5 (nm_r (nI_1 j) nxt)⟩
      rcases hk with hk | hk
      · exact br_t hk lf
      · exact br_f (by rw [hk]; decide) ⟨iv, br_t hk lf⟩
    · have e1 := ys_dp2 hk
      have n0 : ¬ yk j = 0 := by rcases hk with hk | hk <;> rw [hk] <;> decide
      have n1 : ¬ yk j = 1 := by rcases hk with hk | hk <;> rw [hk] <;> decide
      have n3 : ¬ yk j = 3 := by rcases hk with hk | hk <;> rw [hk] <;> decide
      have n5 : ¬ yk j = 5 := by rcases hk with hk | hk <;> rw [hk] <;> decide
      rw [e1] at nxt
      refine br_f n0 ⟨iv, br_f n1 ⟨iv, ?_⟩⟩
      rw [cl]
      exact br_f n3 ⟨iv, br_f n5 (nm_r (nI_1 j) nxt)⟩
    · have e1 := ys_dp3 hk
      have h2 := (ys_bin (fun k hk' => h k (by omega)) hk).2.2.2.2
      have n0 : ¬ yk j = 0 := by rcases hk with hk | hk <;> rw [hk] <;> decide
      have n1 : ¬ yk j = 1 := by rcases hk with hk | hk <;> rw [hk] <;> decide
      have em : nI (ys_dp yk j) + (-1) = nI (ys_dp yk (j + 1)) := by rw [nu_p1 (by omega), e1]
      refine br_f n0 ⟨iv, br_f n1 ⟨iv, ?_⟩⟩
      rw [cl]
      rcases hk with hk | hk
      · exact br_t hk (nm_r em (nm_r (nI_1 j) nxt))
      · exact br_f (by rw [hk]; decide) ⟨iv, br_t hk (nm_r em (nm_r (nI_1 j) nxt))⟩
theorem ys_depth {sn : Nat → Nat} {C : Nat} (hC : C ≤ 12) (h : ∀ j, j < C → ys_St yk sn j) (H : rost (nI (ys_dp yk C))) : wpY_depth rost (yz, ym, yw, nI C, yt, yd, yo, tb, yk, ya, bf, yN, yV, yS) :=
  ⟨C + 1, ys_depthL hC h C 0 (C + 1) (by omega) (by omega) H⟩
/-! the table -/
def ys_T (tb : Nat → Int32) (s i : Nat) (w : List Nat) : Prop := tb ((s * 12 + i) * 1093 + wo_cd w) = 1
def ys_01 (tb : Nat → Int32) : Prop := ∀ j, j < 26232 → tb j = 0 ∨ tb j = 1
theorem ys_has (h1 : ys_01 tb) {s i : Nat} {w : List Nat} (hs : s < 2) (hi : i < 12) (hv : wo_V w) (hl : w.length ≤ 6) (H1 : ys_T tb s i w → rost 1) (H0 : ¬ ys_T tb s i w → rost 0) :
    wpY_has rost (yz, ym, yw, yc, yt, yd, yo, tb, yk, ya, bf, yN, yV, yS) (nI s) (nI i) (nI (wo_cd w)) := by
  have hc := (wo_six hv).mpr hl
  refine br_f (nI_pos (by omega)) (br_f (xs_12f hi) (br_f (nI_pos (by omega)) (br_t (nI_lt (b := 1093) hc (by omega)) ?_)))
  rw [nu_m12, nI_add, nu_m1093, nI_add]
  refine ⟨xs_in (by omega) (by omega), ?_⟩
  rw [nI_clamp (by omega)]
  have h01 : ¬ (0 : Int32) = 1 := by decide
  rcases h1 ((s * 12 + i) * 1093 + wo_cd w) (by omega) with e | e
  · rw [e]
    exact ⟨rfl, H0 fun h => h01 (e.symm.trans h)⟩
  · rw [e]
    exact ⟨rfl, H1 e⟩
theorem ys_hasN {s i : Nat} (hi : i < 12) (H : rost 0) : wpY_has rost (yz, ym, yw, yc, yt, yd, yo, tb, yk, ya, bf, yN, yV, yS) (nI s) (nI i) (-1) :=
  br_f (nI_pos (by omega)) (br_f (xs_12f hi) (br_t nu_n1 H))
end YS
end
section
section YW
/-! counting cuts -/
def yw_cn (g : Nat → Bool) : Nat → Nat
  | 0 => (g 0).toNat
  | n + 1 => (g (n + 1)).toNat + yw_cn g n
theorem yw_b (b : Bool) : b.toNat ≤ 1 := by cases b <;> decide
theorem yw_cnle (g : Nat → Bool) (n : Nat) : yw_cn g n ≤ n + 1 := by
  induction n with
  | zero => exact yw_b _
  | succ n ih =>
    have := yw_b (g (n + 1))
    simp only [yw_cn]
    omega
theorem yw_b0 {b : Bool} : b.toNat = 0 ↔ b = false := by cases b <;> decide
theorem yw_cn0 (g : Nat → Bool) (n : Nat) : yw_cn g n = 0 ↔ ∀ k, k ≤ n → g k = false := by
  induction n with
  | zero =>
    show (g 0).toNat = 0 ↔ _
    rw [yw_b0]
    constructor
    · intro h k hk
      rw [show k = 0 by omega]
      exact h
    · intro h
      exact h 0 (Nat.le_refl 0)
  | succ n ih =>
    show (g (n + 1)).toNat + yw_cn g n = 0 ↔ _
    rw [Nat.add_eq_zero_iff, ih, yw_b0]
    constructor
    · rintro ⟨h1, h2⟩ k hk
      by_cases e : k = n + 1
      · rw [e]; exact h1
      · exact h2 k (by omega)
    · intro h
      exact ⟨h _ (Nat.le_refl _), fun k hk => h k (by omega)⟩
theorem yw_cn1 (g : Nat → Bool) (n : Nat) : yw_cn g n ≤ 1 ↔ ¬ ∃ k l, k < l ∧ l ≤ n ∧ g k = true ∧ g l = true := by
  induction n with
  | zero =>
    constructor
    · rintro _ ⟨k, l, h1, h2, _⟩
      omega
    · intro _
      exact yw_b _
  | succ n ih =>
    show (g (n + 1)).toNat + yw_cn g n ≤ 1 ↔ _
    cases hg : g (n + 1)
    · rw [show (false).toNat = 0 from rfl, Nat.zero_add, ih]
      refine not_congr ⟨fun ⟨k, l, h1, h2, h⟩ => ⟨k, l, h1, by omega, h⟩, fun ⟨k, l, h1, h2, h⟩ => ⟨k, l, h1, ?_, h⟩⟩
      by_cases e : l = n + 1
      · rw [e, hg] at h
        exact absurd h.2 (by decide)
      · omega
    · rw [show (true).toNat = 1 from rfl]
      constructor
      · rintro h ⟨k, l, h1, h2, h3, h4⟩
        have h0 := (yw_cn0 g n).mp (by omega)
        rw [h0 k (by omega)] at h3
        exact absurd h3 (by decide)
      · intro h
        have : yw_cn g n = 0 := (yw_cn0 g n).mpr fun k hk => by
          cases hk' : g k
          · rfl
          · exact absurd ⟨k, n + 1, by omega, by omega, hk', hg⟩ h
        omega
def yw_g (tb : Nat → Int32) (s a b : Nat) (w : List Nat) (k : Nat) : Bool := decide (tb ((s * 12 + a) * 1093 + wo_cd (w.take k)) = 1 ∧ tb ((s * 12 + b) * 1093 + wo_cd (w.drop k)) = 1)
theorem yw_gi {tb : Nat → Int32} {s a b : Nat} {w : List Nat} {k : Nat} : yw_g tb s a b w k = true ↔ ys_T tb s a (w.take k) ∧ ys_T tb s b (w.drop k) := by
  unfold yw_g ys_T
  rw [decide_eq_true_eq]
theorem yw_sp {tb : Nat → Int32} {s a b : Nat} {w : List Nat} : wo_Sp (ys_T tb s a) (ys_T tb s b) w ↔ ¬ yw_cn (yw_g tb s a b w) w.length = 0 := by
  rw [yw_cn0]
  unfold wo_Sp
  constructor
  · rintro ⟨k, h1, h2⟩ h
    have := h k h1
    rw [yw_gi.mpr h2] at this
    exact absurd this (by decide)
  · intro h
    obtain ⟨k, hk⟩ := Classical.not_forall.mp h
    obtain ⟨h1, h2⟩ := Classical.not_imp.mp hk
    have : yw_g tb s a b w k = true := by
      cases h3 : yw_g tb s a b w k
      · exact absurd h3 h2
      · rfl
    exact ⟨k, h1, yw_gi.mp this⟩
theorem yw_am {tb : Nat → Int32} {s a b : Nat} {w : List Nat} : wo_Am (ys_T tb s a) (ys_T tb s b) w ↔ ¬ yw_cn (yw_g tb s a b w) w.length ≤ 1 := by
  rw [yw_cn1, Classical.not_not]
  unfold wo_Am
  simp only [yw_gi]
variable {yz ym yw yc yt yd yo : Int32} {tb yk ya bf yN yV yS : Nat → Int32} {post : SY → Prop} {qost : Int32 → SY → Prop} {rost : Int32 → Prop}
theorem yw_3 {n : Nat} (h : n ≤ 6) : 3 ^ n ≤ 729 := by
  have : 3 ^ n ≤ 3 ^ 6 := Nat.pow_le_pow_right (by omega) h
  exact this
theorem yw_rs {w : List Nat} (k : Nat) : nI (wo_cd w) - nI (wo_cd (w.take k)) * nI (3 ^ (w.length - k)) = nI (wo_cd (w.drop k)) := by
  have h := wo_split w k
  rw [nu_m, nu_s (by omega)]
  congr 1
  omega
theorem yw_c6 {w : List Nat} (hv : wo_V w) (hl : w.length ≤ 6) : wo_cd w < 1093 := (wo_six hv).mpr hl
theorem yw_waysL (h01 : ys_01 tb) {s a b : Nat} {w : List Nat} (hs : s < 2) (ha : a < 12) (hb : b < 12) (hv : wo_V w) (hl : w.length ≤ 6) : ∀ (m n c : Nat), m ≤ w.length → m < n →
    rost (nI (c + yw_cn (yw_g tb s a b w) m)) →
    wY_ways_13 rost (nI s) (nI a) (nI b) (nI (wo_cd w)) yz ym yw yc yt yd yo tb yk ya bf yN yV yS n (nI c) (nI (wo_cd (w.take m))) (nI (3 ^ (w.length - m))) (nI (w.length - m)) := by
  intro m
  induction m with
  | zero =>
    intro n c hm hn H
    obtain ⟨n, rfl⟩ : ∃ m, n = m + 1 := ⟨n - 1, by omega⟩
    have fin : ∀ (x : Nat) (J : Int32 → Int32 → Int32 → Int32 → Prop), x = c + yw_cn (yw_g tb s a b w) 0 → wY_ways_51 rost J (nI s) (nI a) (nI b) (nI (wo_cd w)) (nI x) (nI (wo_cd (w.take 0))) (nI (3 ^ (w.length - 0))) (nI (w.length - 0)) yz ym yw yc yt yd yo tb yk ya bf yN yV yS := by
      intro x J hx
      subst hx
      exact br_f (by rw [List.take_zero]; decide) H
    refine br_f (nI_nlt (b := w.length - 0) (a := 6) (by omega) (by omega)) ?_
    refine ys_has h01 hs ha (wo_Vt hv 0) (by rw [List.length_take]; omega) ?_ ?_
    · intro h1
      refine br_f (by decide) ?_
      rw [yw_rs]
      refine ys_has h01 hs hb (wo_Vd hv 0) (by rw [List.length_drop]; omega) ?_ ?_
      · intro h2
        refine br_f (by decide) (nm_r (nI_1 c) (fin _ _ ?_))
        show _ = c + (yw_g tb s a b w 0).toNat
        rw [yw_gi.mpr ⟨h1, h2⟩]
        rfl
      · intro h2
        refine br_t rfl (fin _ _ ?_)
        show _ = c + (yw_g tb s a b w 0).toNat
        rw [bi_n fun h => h2 (yw_gi.mp h).2]
        rfl
    · intro h1
      refine br_t rfl (fin _ _ ?_)
      show _ = c + (yw_g tb s a b w 0).toNat
      rw [bi_n fun h => h1 (yw_gi.mp h).1]
      rfl
  | succ m ih =>
    intro n c hm hn H
    obtain ⟨n, rfl⟩ : ∃ m, n = m + 1 := ⟨n - 1, by omega⟩
    have h6 := yw_c6 (wo_Vt hv (m + 1)) (by rw [List.length_take]; omega)
    have hc0 : wo_cd (w.take (m + 1)) ≠ 0 := by
      intro h
      have := congrArg List.length (wo_z.mp h)
      rw [List.length_take, List.length_nil] at this
      omega
    have p3 := yw_3 (n := w.length - (m + 1)) (by omega)
    have fin : ∀ (x : Nat), x = c + (yw_g tb s a b w (m + 1)).toNat → wY_ways_51 rost (wY_ways_13 rost (nI s) (nI a) (nI b) (nI (wo_cd w)) yz ym yw yc yt yd yo tb yk ya bf yN yV yS n) (nI s) (nI a) (nI b) (nI (wo_cd w)) (nI x) (nI (wo_cd (w.take (m + 1)))) (nI (3 ^ (w.length - (m + 1)))) (nI (w.length - (m + 1))) yz ym yw yc yt yd yo tb yk ya bf yN yV yS := by
      intro x hx
      refine br_t (by rw [nu_lt0 (by omega)]; omega) ⟨by decide, ?_⟩
      refine nm_r (e' := nI (wo_cd (w.take m))) ?_ (nm_r (e' := nI (3 ^ (w.length - m))) ?_ (nm_r (e' := nI (w.length - m)) ?_ (ih n x (by omega) (by omega) ?_)))
      · rw [nu_s1 (by omega), nu_d3 (by omega), wo_pre hv (by omega)]
      · rw [nu_m3, ← Nat.pow_succ]
        congr 2
        omega
      · rw [nI_1]
        congr 1
        omega
      · rw [hx, Nat.add_assoc]
        exact H
    refine br_f (nI_nlt (b := w.length - (m + 1)) (a := 6) (by omega) (by omega)) ?_
    refine ys_has h01 hs ha (wo_Vt hv _) (by rw [List.length_take]; omega) ?_ ?_
    · intro h1
      refine br_f (by decide) ?_
      rw [yw_rs]
      refine ys_has h01 hs hb (wo_Vd hv _) (by rw [List.length_drop]; omega) ?_ ?_
      · intro h2
        refine br_f (by decide) (nm_r (nI_1 c) (fin _ ?_))
        rw [yw_gi.mpr ⟨h1, h2⟩]
        rfl
      · intro h2
        refine br_t rfl (fin _ ?_)
        rw [bi_n fun h => h2 (yw_gi.mp h).2]
        rfl
    · intro h1
      refine br_t rfl (fin _ ?_)
      rw [bi_n fun h => h1 (yw_gi.mp h).1]
      rfl
theorem yw_ways (h01 : ys_01 tb) {s a b : Nat} {w : List Nat} (hs : s < 2) (ha : a < 12) (hb : b < 12) (hv : wo_V w) (hl : w.length ≤ 6) (H : rost (nI (yw_cn (yw_g tb s a b w) w.length))) :
    wpY_ways rost (yz, ym, yw, yc, yt, yd, yo, tb, yk, ya, bf, yN, yV, yS) (nI s) (nI a) (nI b) (nI (wo_cd w)) := by
  refine ⟨w.length + 1, ?_⟩
  have := yw_waysL (rost := rost) (yz := yz) (ym := ym) (yw := yw) (yc := yc) (yt := yt) (yd := yd) (yo := yo) (tb := tb) (yk := yk) (ya := ya) (bf := bf) (yN := yN) (yV := yV) (yS := yS) h01 hs ha hb hv hl w.length (w.length + 1) 0 (Nat.le_refl _) (by omega) (by rw [Nat.zero_add]; exact H)
  rw [List.take_length, Nat.sub_self] at this
  exact this
theorem yw_firstL (h01 : ys_01 tb) {s a b : Nat} {w : List Nat} (hs : s < 2) (ha : a < 12) (hb : b < 12) (hv : wo_V w) (hl : w.length ≤ 6) : ∀ (m n : Nat), m ≤ w.length → m < n →
    (∀ k, k ≤ m → yw_g tb s a b w k = true → (∀ j, k < j → j ≤ m → ¬ yw_g tb s a b w j = true) → rost (nI (wo_cd (w.take k)))) →
    ((∀ k, k ≤ m → ¬ yw_g tb s a b w k = true) → rost (-1)) →
    wY_first_10 rost (nI s) (nI a) (nI b) (nI (wo_cd w)) yz ym yw yc yt yd yo tb yk ya bf yN yV yS n (nI (wo_cd (w.take m))) (nI (3 ^ (w.length - m))) (nI (w.length - m)) := by
  intro m
  induction m with
  | zero =>
    intro n hm hn H1 H0
    obtain ⟨n, rfl⟩ : ∃ m, n = m + 1 := ⟨n - 1, by omega⟩
    have fin : ∀ (J : Int32 → Int32 → Int32 → Prop), (¬ yw_g tb s a b w 0 = true) → wY_first_48 rost J (nI s) (nI a) (nI b) (nI (wo_cd w)) (nI (wo_cd (w.take 0))) (nI (3 ^ (w.length - 0))) (nI (w.length - 0)) yz ym yw yc yt yd yo tb yk ya bf yN yV yS := by
      intro J hx
      refine br_f (by rw [List.take_zero]; decide) (H0 fun k hk => ?_)
      rw [show k = 0 by omega]
      exact hx
    refine br_f (nI_nlt (b := w.length - 0) (a := 6) (by omega) (by omega)) ?_
    refine ys_has h01 hs ha (wo_Vt hv 0) (by rw [List.length_take]; omega) ?_ ?_
    · intro h1
      refine br_f (by decide) ?_
      rw [yw_rs]
      refine ys_has h01 hs hb (wo_Vd hv 0) (by rw [List.length_drop]; omega) ?_ ?_
      · intro h2
        exact br_f (by decide) (H1 0 (Nat.le_refl 0) (yw_gi.mpr ⟨h1, h2⟩) fun j a b => by omega)
      · intro h2
        exact br_t rfl (fin _ fun h => h2 (yw_gi.mp h).2)
    · intro h1
      exact br_t rfl (fin _ fun h => h1 (yw_gi.mp h).1)
  | succ m ih =>
    intro n hm hn H1 H0
    obtain ⟨n, rfl⟩ : ∃ m, n = m + 1 := ⟨n - 1, by omega⟩
    have h6 := yw_c6 (wo_Vt hv (m + 1)) (by rw [List.length_take]; omega)
    have hc0 : wo_cd (w.take (m + 1)) ≠ 0 := by
      intro h
      have := congrArg List.length (wo_z.mp h)
      rw [List.length_take, List.length_nil] at this
      omega
    have fin : (¬ yw_g tb s a b w (m + 1) = true) → wY_first_48 rost (wY_first_10 rost (nI s) (nI a) (nI b) (nI (wo_cd w)) yz ym yw yc yt yd yo tb yk ya bf yN yV yS n) (nI s) (nI a) (nI b) (nI (wo_cd w)) (nI (wo_cd (w.take (m + 1)))) (nI (3 ^ (w.length - (m + 1)))) (nI (w.length - (m + 1))) yz ym yw yc yt yd yo tb yk ya bf yN yV yS := by
      intro hx
      refine br_t (by rw [nu_lt0 (by omega)]; omega) ⟨by decide, ?_⟩
      refine nm_r (e' := nI (wo_cd (w.take m))) ?_ (nm_r (e' := nI (3 ^ (w.length - m))) ?_ (nm_r (e' := nI (w.length - m)) ?_ (ih n (by omega) (by omega) ?_ ?_)))
      · rw [nu_s1 (by omega), nu_d3 (by omega), wo_pre hv (by omega)]
      · rw [nu_m3, ← Nat.pow_succ]
        congr 2
        omega
      · rw [nI_1]
        congr 1
        omega
      · intro k hk hg hj
        refine H1 k (by omega) hg fun j h1 h2 => ?_
        by_cases e : j = m + 1
        · rw [e]; exact hx
        · exact hj j h1 (by omega)
      · intro h
        refine H0 fun k hk => ?_
        by_cases e : k = m + 1
        · rw [e]; exact hx
        · exact h k (by omega)
    refine br_f (nI_nlt (b := w.length - (m + 1)) (a := 6) (by omega) (by omega)) ?_
    refine ys_has h01 hs ha (wo_Vt hv _) (by rw [List.length_take]; omega) ?_ ?_
    · intro h1
      refine br_f (by decide) ?_
      rw [yw_rs]
      refine ys_has h01 hs hb (wo_Vd hv _) (by rw [List.length_drop]; omega) ?_ ?_
      · intro h2
        exact br_f (by decide) (H1 (m + 1) (Nat.le_refl _) (yw_gi.mpr ⟨h1, h2⟩) fun j a b => by omega)
      · intro h2
        exact br_t rfl (fin fun h => h2 (yw_gi.mp h).2)
    · intro h1
      exact br_t rfl (fin fun h => h1 (yw_gi.mp h).1)
/-- the only cut -/
theorem yw_first (h01 : ys_01 tb) {s a b : Nat} {w : List Nat} (hs : s < 2) (ha : a < 12) (hb : b < 12) (hv : wo_V w) (hl : w.length ≤ 6) (k : Nat) (hk : k ≤ w.length)
    (hu : ∀ j, j ≤ w.length → ((ys_T tb s a (w.take j) ∧ ys_T tb s b (w.drop j)) ↔ j = k)) (H : rost (nI (wo_cd (w.take k)))) : wpY_first rost (yz, ym, yw, yc, yt, yd, yo, tb, yk, ya, bf, yN, yV, yS) (nI s) (nI a) (nI b) (nI (wo_cd w)) := by
  refine ⟨w.length + 1, ?_⟩
  have := yw_firstL (rost := rost) (yz := yz) (ym := ym) (yw := yw) (yc := yc) (yt := yt) (yd := yd) (yo := yo) (tb := tb) (yk := yk) (ya := ya) (bf := bf) (yN := yN) (yV := yV) (yS := yS) h01 hs ha hb hv hl w.length (w.length + 1) (Nat.le_refl _) (by omega)
    (fun j hj hg _ => by rw [(hu j hj).mp (yw_gi.mp hg)]; exact H) (fun h => absurd (yw_gi.mpr ((hu k hk).mpr rfl)) (h k hk))
  rw [List.take_length, Nat.sub_self] at this
  exact this
theorem yw_firstN (h01 : ys_01 tb) {s a b : Nat} {w : List Nat} (hs : s < 2) (ha : a < 12) (hb : b < 12) (hv : wo_V w) (hl : w.length ≤ 6)
    (hu : ∀ j, j ≤ w.length → ¬ (ys_T tb s a (w.take j) ∧ ys_T tb s b (w.drop j))) (H : rost (-1)) : wpY_first rost (yz, ym, yw, yc, yt, yd, yo, tb, yk, ya, bf, yN, yV, yS) (nI s) (nI a) (nI b) (nI (wo_cd w)) := by
  refine ⟨w.length + 1, ?_⟩
  have := yw_firstL (rost := rost) (yz := yz) (ym := ym) (yw := yw) (yc := yc) (yt := yt) (yd := yd) (yo := yo) (tb := tb) (yk := yk) (ya := ya) (bf := bf) (yN := yN) (yV := yV) (yS := yS) h01 hs ha hb hv hl w.length (w.length + 1) (Nat.le_refl _) (by omega)
    (fun j hj hg _ => absurd (yw_gi.mp hg) (hu j hj)) (fun _ => H)
  rw [List.take_length, Nat.sub_self] at this
  exact this
theorem yw_firstM {s a b : Nat} (ha : a < 12) (H : rost (-1)) : wpY_first rost (yz, ym, yw, yc, yt, yd, yo, tb, yk, ya, bf, yN, yV, yS) (nI s) (nI a) (nI b) (-1) :=
  ⟨1, br_f (by decide) (ys_hasN ha (br_t rfl (br_f (by decide) H)))⟩
theorem yw_restL {w : List Nat} (k : Nat) (hk : k ≤ w.length) : ∀ (d i n : Nat), i + d = w.length - k → d < n → w.length ≤ 6 → rost (nI (wo_cd (w.drop k))) →
    wY_rest_24 rost (nI (wo_cd w)) (nI (w.length - k)) yz ym yw yc yt yd yo tb yk ya bf yN yV yS n (nI (wo_cd (w.take k) * 3 ^ i)) (nI i) := by
  intro d
  induction d with
  | zero =>
    intro i n hi hn hl H
    obtain ⟨n, rfl⟩ : ∃ m, n = m + 1 := ⟨n - 1, by omega⟩
    obtain rfl : i = w.length - k := by omega
    refine br_t (nI_le (Nat.le_refl _) (by omega)) ?_
    rw [← nu_m, yw_rs]
    exact H
  | succ d ih =>
    intro i n hi hn hl H
    obtain ⟨n, rfl⟩ : ∃ m, n = m + 1 := ⟨n - 1, by omega⟩
    refine br_f (nI_ge (by omega) (by omega)) (nm_r (e' := nI (wo_cd (w.take k) * 3 ^ (i + 1))) ?_ (nm_r (nI_1 i) (ih (i + 1) n (by omega) (by omega) hl H)))
    rw [nu_m3, Nat.mul_assoc, ← Nat.pow_succ]
theorem yw_rest {w : List Nat} (hv : wo_V w) (hl : w.length ≤ 6) (k : Nat) (hk : k ≤ w.length) (H : rost (nI (wo_cd (w.drop k)))) : wpY_rest rost (yz, ym, yw, yc, yt, yd, yo, tb, yk, ya, bf, yN, yV, yS) (nI (wo_cd w)) (nI (wo_cd (w.take k))) := by
  have h6 := yw_c6 (wo_Vt hv k) (by rw [List.length_take]; omega)
  refine br_t (nI_pos' (by omega)) ?_
  refine ys_len hv hl ?_
  refine ys_len (wo_Vt hv k) (by rw [List.length_take]; omega) ?_
  refine nm_r (e' := nI (w.length - k)) ?_ ⟨w.length - k + 1, ?_⟩
  · rw [List.length_take, nu_s (by omega)]
    congr 1
    omega
  · have := yw_restL (rost := rost) (yz := yz) (ym := ym) (yw := yw) (yc := yc) (yt := yt) (yd := yd) (yo := yo) (tb := tb) (yk := yk) (ya := ya) (bf := bf) (yN := yN) (yV := yV) (yS := yS) k hk (w.length - k) 0 (w.length - k + 1) (by omega) (by omega) hl H
    rw [Nat.pow_zero, Nat.mul_one] at this
    exact this
theorem yw_restN {x : Int32} (H : rost (-1)) : wpY_rest rost (yz, ym, yw, yc, yt, yd, yo, tb, yk, ya, bf, yN, yV, yS) x (-1) := br_f nu_n1' H
theorem yw_ambL (h01 : ys_01 tb) {s a b N : Nat} (hs : s < 2) (ha : a < 12) (hb : b < 12) (hN : N ≤ 6) : ∀ (m c n : Nat), c + m = wo_ws N → m < n →
    ((∃ w, wo_V w ∧ w.length ≤ N ∧ c ≤ wo_cd w ∧ wo_Am (ys_T tb s a) (ys_T tb s b) w) → rost 1) →
    ((¬ ∃ w, wo_V w ∧ w.length ≤ N ∧ c ≤ wo_cd w ∧ wo_Am (ys_T tb s a) (ys_T tb s b) w) → rost 0) →
    wY_ambiguous_3 rost (nI s) (nI a) (nI b) yz ym (nI (wo_ws N)) yc yt yd yo tb yk ya bf yN yV yS n (nI c) := by
  have hw := wo_wsM hN
  rw [wo_ws6] at hw
  intro m
  induction m with
  | zero =>
    intro c n hc hn H1 H0
    obtain ⟨n, rfl⟩ : ∃ m, n = m + 1 := ⟨n - 1, by omega⟩
    refine br_t (nI_le (by omega) (by omega)) (H0 ?_)
    rintro ⟨w, h1, h2, h3, _⟩
    have := (wo_wsLe h1 N).mpr h2
    omega
  | succ m ih =>
    intro c n hc hn H1 H0
    obtain ⟨n, rfl⟩ : ∃ m, n = m + 1 := ⟨n - 1, by omega⟩
    obtain ⟨w, hv, e⟩ := wo_sur c
    have hl := (wo_wsLe hv N).mp (by omega)
    subst e
    refine br_f (nI_ge (by omega) (by omega)) ?_
    refine yw_ways h01 hs ha hb hv (by omega) ?_
    have hb7 := yw_cnle (yw_g tb s a b w) w.length
    by_cases hz : yw_cn (yw_g tb s a b w) w.length ≤ 1
    · refine br_t (nI_le (b := 1) hz (by omega)) (nm_r (nI_1 _) (ih _ n (by omega) (by omega) ?_ ?_))
      · rintro ⟨v, h1, h2, h3, h4⟩
        exact H1 ⟨v, h1, h2, by omega, h4⟩
      · intro h
        refine H0 ?_
        rintro ⟨v, h1, h2, h3, h4⟩
        by_cases ev : wo_cd v = wo_cd w
        · have := wo_inj h1 hv ev
          subst this
          exact yw_am.mp h4 hz
        · exact h ⟨v, h1, h2, by omega, h4⟩
    · exact br_f (nI_ge (a := 1) (by omega) (by omega)) (H1 ⟨w, hv, hl, Nat.le_refl _, yw_am.mpr hz⟩)
theorem yw_amb (h01 : ys_01 tb) {s a b N : Nat} (hs : s < 2) (ha : a < 12) (hb : b < 12) (hN : N ≤ 6)
    (H1 : (∃ w, wo_V w ∧ w.length ≤ N ∧ wo_Am (ys_T tb s a) (ys_T tb s b) w) → rost 1)
    (H0 : (¬ ∃ w, wo_V w ∧ w.length ≤ N ∧ wo_Am (ys_T tb s a) (ys_T tb s b) w) → rost 0) :
    wpY_ambiguous rost (yz, ym, nI (wo_ws N), yc, yt, yd, yo, tb, yk, ya, bf, yN, yV, yS) (nI s) (nI a) (nI b) := by
  refine ⟨wo_ws N + 1, yw_ambL h01 hs ha hb hN (wo_ws N) 0 _ (by omega) (by omega) ?_ ?_⟩
  · rintro ⟨w, h1, h2, _, h4⟩
    exact H1 ⟨w, h1, h2, h4⟩
  · intro h
    refine H0 ?_
    rintro ⟨w, h1, h2, h4⟩
    exact h ⟨w, h1, h2, by omega, h4⟩
theorem yw_leastL (h01 : ys_01 tb) {i : Nat} (hi : i < 12) {w : List Nat} (hv : wo_V w) (hl : w.length ≤ 6) (ht : ys_T tb 0 i w) (hm : ∀ v, wo_V v → v.length ≤ 6 → ys_T tb 0 i v → wo_cd w ≤ wo_cd v) (H : rost (nI (wo_cd w))) :
    ∀ (m c n : Nat), c + m = wo_cd w → m < n → wY_least_2 rost (nI i) yz ym yw yc yt yd yo tb yk ya bf yN yV yS n (nI c) := by
  have h6 := yw_c6 hv hl
  intro m
  induction m with
  | zero =>
    intro c n hc hn
    obtain ⟨n, rfl⟩ : ∃ m, n = m + 1 := ⟨n - 1, by omega⟩
    obtain rfl : c = wo_cd w := by omega
    exact br_f (nI_ge (b := 1093) h6 (by omega)) (ys_has (s := 0) h01 (by omega) hi hv hl (fun _ => br_f (by decide) H) fun h => absurd ht h)
  | succ m ih =>
    intro c n hc hn
    obtain ⟨n, rfl⟩ : ∃ m, n = m + 1 := ⟨n - 1, by omega⟩
    obtain ⟨v, hv', e⟩ := wo_sur c
    have hl' : v.length ≤ 6 := (wo_six hv').mp (by omega)
    subst e
    refine br_f (nI_ge (b := 1093) (by omega) (by omega)) (ys_has (s := 0) h01 (by omega) hi hv' hl' ?_ ?_)
    · intro h
      have := hm v hv' hl' h
      omega
    · intro _
      exact br_t rfl (nm_r (nI_1 _) (ih _ n (by omega) (by omega)))
theorem yw_least (h01 : ys_01 tb) {i : Nat} (hi : i < 12) {w : List Nat} (hv : wo_V w) (hl : w.length ≤ 6) (ht : ys_T tb 0 i w) (hm : ∀ v, wo_V v → v.length ≤ 6 → ys_T tb 0 i v → wo_cd w ≤ wo_cd v) (H : rost (nI (wo_cd w))) :
    wpY_least rost (yz, ym, yw, yc, yt, yd, yo, tb, yk, ya, bf, yN, yV, yS) (nI i) := ⟨wo_cd w + 1, yw_leastL h01 hi hv hl ht hm H (wo_cd w) 0 _ (by omega) (by omega)⟩
end YW
end
section
section YB
variable {yz ym yw yc yt yd yo : Int32} {tb yk ya bf yN yV yS : Nat → Int32} {post : SY → Prop} {qost : Int32 → SY → Prop} {rost : Int32 → Prop}
theorem yb_k0 {sn : Nat → Nat} {s i : Nat} {w : List Nat} (hs : s < 2) (hi : i < 12) (hv : wo_V w) (hl : w.length ≤ 6) (hst : ∀ j, j < i → ys_St yk sn j) (hk : yk i = 0)
    (H1 : (∃ c, w = [c] ∧ bt (ya i) c = true) → rost 1) (H0 : (¬ ∃ c, w = [c] ∧ bt (ya i) c = true) → rost 0) : wpY_belongs rost (yz, ym, yw, yc, yt, yd, yo, tb, yk, ya, bf, yN, yV, yS) (nI s) (nI i) (nI (wo_cd w)) := by
  have h6 := yw_c6 hv hl
  have iv : vp_in (nI i) 12 := xs_in hi (by omega)
  refine nm_e (ys_startP hi hst fun r _ => nm_e ⟨iv, ?_⟩)
  rw [xs_cl (by omega : i < 4096)]
  refine br_t hk ?_
  by_cases h1 : wo_cd w < 1
  · refine br_t (nI_lt (b := 1) h1 (by omega)) (H0 ?_)
    rintro ⟨c, rfl, _⟩
    simp [wo_cd] at h1
  · refine br_f (nI_nlt (b := 1) (by omega) (by omega)) ?_
    by_cases h3 : 3 < wo_cd w
    · refine br_t (nI_lt (a := 3) h3 (by omega)) (H0 ?_)
      rintro ⟨c, rfl, _⟩
      have := (wo_Vc.mp hv).1
      simp [wo_cd] at h3
      omega
    · refine br_f (nI_nlt (a := wo_cd w) (b := 3) |> fun _ => nI_nlt (b := wo_cd w) (a := 3) (by omega) (by omega)) ⟨iv, ?_⟩
      obtain ⟨c, hc, rfl⟩ : ∃ c, c < 3 ∧ w = [c] := by
        refine ⟨wo_cd w - 1, by omega, wo_inj hv (wo_Vc.mpr ⟨by omega, wo_V0⟩) ?_⟩
        simp [wo_cd]
        omega
      have e : nI (wo_cd [c]) - 1 = nI c := by
        rw [nu_s1 (by simp [wo_cd])]
        simp [wo_cd]
      rw [e]
      by_cases hb : bt (ya i) c = true
      · exact br_t ((bi_test1 _ (by omega)).mpr hb) (H1 ⟨c, rfl, hb⟩)
      · refine br_f (fun h => hb ((bi_test1 _ (by omega)).mp h)) (H0 ?_)
        rintro ⟨d, e, hd⟩
        cases e
        exact hb hd
theorem yb_eq {w : List Nat} {x : Nat} (hv : wo_V w) (hl : w.length ≤ 6) (hx : x < 1000) {A B : Prop} (f : wo_cd w = x → A) (g : wo_cd w ≠ x → B) : (nI (wo_cd w) = nI x → A) ∧ (¬ nI (wo_cd w) = nI x → B) := by
  have h6 := yw_c6 hv hl
  by_cases h : wo_cd w = x
  · exact br_t (by rw [h]) (f h)
  · exact br_f (by rw [nI_eq (by omega) (by omega)]; exact h) (g h)
theorem yb_k1 {sn : Nat → Nat} {s i d : Nat} {w : List Nat} (hs : s < 2) (hi : i < 12) (hv : wo_V w) (hl : w.length ≤ 6) (hst : ∀ j, j < i → ys_St yk sn j) (hk : yk i = 1) (hd : d < 3) (hy : ya i = nI d)
    (H1 : ((s = 0 ∧ w = []) ∨ (s = 1 ∧ w = [d])) → rost 1) (H0 : (¬ ((s = 0 ∧ w = []) ∨ (s = 1 ∧ w = [d]))) → rost 0) : wpY_belongs rost (yz, ym, yw, yc, yt, yd, yo, tb, yk, ya, bf, yN, yV, yS) (nI s) (nI i) (nI (wo_cd w)) := by
  have iv : vp_in (nI i) 12 := xs_in hi (by omega)
  refine nm_e (ys_startP hi hst fun r _ => nm_e ⟨iv, ?_⟩)
  rw [xs_cl (by omega : i < 4096), hk]
  refine br_f (by decide) ⟨iv, br_t rfl ?_⟩
  by_cases h0 : s = 0
  · subst h0
    refine br_t rfl (yb_eq (x := 0) hv hl (by omega) ?_ ?_)
    · intro h
      exact H1 (Or.inl ⟨rfl, wo_z.mp h⟩)
    · intro h
      refine H0 ?_
      rintro (⟨_, e⟩ | ⟨e, _⟩)
      · exact h (wo_z.mpr e)
      · omega
  · obtain rfl : s = 1 := by omega
    refine br_f (by decide) ⟨iv, ?_⟩
    rw [hy, nI_1]
    refine yb_eq (x := d + 1) hv hl (by omega) ?_ ?_
    · intro h
      refine H1 (Or.inr ⟨rfl, wo_inj hv (wo_Vc.mpr ⟨hd, wo_V0⟩) ?_⟩)
      rw [h]
      simp [wo_cd]
    · intro h
      refine H0 ?_
      rintro (⟨e, _⟩ | ⟨_, e⟩)
      · omega
      · rw [e] at h
        simp [wo_cd] at h
theorem yb_k2 (h01 : ys_01 tb) {sn : Nat → Nat} {s i : Nat} {w : List Nat} (hs : s < 2) (hi : i < 12) (h1 : 1 ≤ i) (hv : wo_V w) (hl : w.length ≤ 6) (hst : ∀ j, j < i → ys_St yk sn j) (hk : yk i = 2)
    (H1 : ((s = 0 ∧ ys_T tb 0 (i - 1) w) ∨ (s = 1 ∧ w = [])) → rost 1) (H0 : (¬ ((s = 0 ∧ ys_T tb 0 (i - 1) w) ∨ (s = 1 ∧ w = []))) → rost 0) : wpY_belongs rost (yz, ym, yw, yc, yt, yd, yo, tb, yk, ya, bf, yN, yV, yS) (nI s) (nI i) (nI (wo_cd w)) := by
  have iv : vp_in (nI i) 12 := xs_in hi (by omega)
  refine nm_e (ys_startP hi hst fun r _ => nm_e ⟨iv, ?_⟩)
  rw [xs_cl (by omega : i < 4096), hk, nu_s1 (n := i) (by omega)]
  refine br_f (by decide) ⟨iv, br_f (by decide) ⟨iv, br_t rfl ?_⟩⟩
  by_cases h0 : s = 0
  · subst h0
    refine br_t rfl (ys_has (s := 0) h01 (by omega) (by omega) hv hl ?_ ?_)
    · intro h
      exact ⟨rfl, H1 (Or.inl ⟨rfl, h⟩)⟩
    · intro h
      refine ⟨rfl, H0 ?_⟩
      rintro (⟨_, e⟩ | ⟨e, _⟩)
      · exact h e
      · omega
  · obtain rfl : s = 1 := by omega
    refine br_f (by decide) (yb_eq (x := 0) hv hl (by omega) ?_ ?_)
    · intro h
      exact H1 (Or.inr ⟨rfl, wo_z.mp h⟩)
    · intro h
      refine H0 ?_
      rintro (⟨e, _⟩ | ⟨_, e⟩)
      · omega
      · exact h (wo_z.mpr e)
theorem yb_w {tb : Nat → Int32} {s a b : Nat} {w : List Nat} (hl : w.length ≤ 6) (H1 : wo_Sp (ys_T tb s a) (ys_T tb s b) w → rost 1) (H0 : (¬ wo_Sp (ys_T tb s a) (ys_T tb s b) w) → rost 0) :
    (nI (yw_cn (yw_g tb s a b w) w.length) ≤ 0 → rost 0) ∧ (¬ nI (yw_cn (yw_g tb s a b w) w.length) ≤ 0 → rost 1) := by
  have := yw_cnle (yw_g tb s a b w) w.length
  rw [yw_sp] at H1 H0
  by_cases h : yw_cn (yw_g tb s a b w) w.length = 0
  · exact br_t (by rw [nu_le0 (by omega)]; exact h) (H0 fun hh => hh h)
  · exact br_f (by rw [nu_le0 (by omega)]; exact h) (H1 h)
theorem yb_k3 (h01 : ys_01 tb) {sn : Nat → Nat} {s i : Nat} {w : List Nat} (hs : s < 2) (hi : i < 12) (h1 : 1 ≤ i) (h2 : 1 ≤ sn (i - 1)) (h3 : sn (i - 1) ≤ i - 1) (hv : wo_V w) (hl : w.length ≤ 6) (hst : ∀ j, j < i → ys_St yk sn j) (hk : yk i = 3)
    (H1 : wo_Sp (ys_T tb s (sn (i - 1) - 1)) (ys_T tb s (i - 1)) w → rost 1) (H0 : (¬ wo_Sp (ys_T tb s (sn (i - 1) - 1)) (ys_T tb s (i - 1)) w) → rost 0) : wpY_belongs rost (yz, ym, yw, yc, yt, yd, yo, tb, yk, ya, bf, yN, yV, yS) (nI s) (nI i) (nI (wo_cd w)) := by
  have iv : vp_in (nI i) 12 := xs_in hi (by omega)
  refine nm_e (ys_startP hi hst fun r hr => nm_e ⟨iv, ?_⟩)
  rw [xs_cl (by omega : i < 4096), hk, nu_s1 (n := i) (by omega), hr h1, nu_s1 (n := sn (i - 1)) (by omega)]
  refine br_f (by decide) ⟨iv, br_f (by decide) ⟨iv, br_f (by decide) ⟨iv, br_t rfl ?_⟩⟩⟩
  exact yw_ways h01 hs (by omega) (by omega) hv hl (yb_w hl H1 H0)
theorem yb_k4 (h01 : ys_01 tb) {sn : Nat → Nat} {s i : Nat} {w : List Nat} (hs : s < 2) (hi : i < 12) (h1 : 1 ≤ i) (hv : wo_V w) (hl : w.length ≤ 6) (hst : ∀ j, j < i → ys_St yk sn j) (hk : yk i = 4)
    (H1 : (w = [] ∨ wo_Sp (ys_T tb s (i - 1)) (ys_T tb s i) w) → rost 1) (H0 : (¬ (w = [] ∨ wo_Sp (ys_T tb s (i - 1)) (ys_T tb s i) w)) → rost 0) : wpY_belongs rost (yz, ym, yw, yc, yt, yd, yo, tb, yk, ya, bf, yN, yV, yS) (nI s) (nI i) (nI (wo_cd w)) := by
  have iv : vp_in (nI i) 12 := xs_in hi (by omega)
  refine nm_e (ys_startP hi hst fun r hr => nm_e ⟨iv, ?_⟩)
  rw [xs_cl (by omega : i < 4096), hk, nu_s1 (n := i) (by omega)]
  refine br_f (by decide) ⟨iv, br_f (by decide) ⟨iv, br_f (by decide) ⟨iv, br_f (by decide) ⟨iv, br_t rfl ?_⟩⟩⟩⟩
  refine yb_eq (x := 0) hv hl (by omega) (fun h => H1 (Or.inl (wo_z.mp h))) fun h => ?_
  refine yw_ways h01 hs (by omega) (by omega) hv hl (yb_w hl (fun hh => H1 (Or.inr hh)) fun hh => H0 ?_)
  rintro (e | e)
  · exact h (wo_z.mpr e)
  · exact hh e
theorem yb_k5 (h01 : ys_01 tb) {sn : Nat → Nat} {s i : Nat} {w : List Nat} (hs : s < 2) (hi : i < 12) (h1 : 1 ≤ i) (h2 : 1 ≤ sn (i - 1)) (h3 : sn (i - 1) ≤ i - 1) (hv : wo_V w) (hl : w.length ≤ 6) (hst : ∀ j, j < i → ys_St yk sn j) (hk : yk i = 5)
    (H1 : (ys_T tb s (sn (i - 1) - 1) w ∨ ys_T tb s (i - 1) w) → rost 1) (H0 : (¬ (ys_T tb s (sn (i - 1) - 1) w ∨ ys_T tb s (i - 1) w)) → rost 0) : wpY_belongs rost (yz, ym, yw, yc, yt, yd, yo, tb, yk, ya, bf, yN, yV, yS) (nI s) (nI i) (nI (wo_cd w)) := by
  have iv : vp_in (nI i) 12 := xs_in hi (by omega)
  refine nm_e (ys_startP hi hst fun r hr => nm_e ⟨iv, ?_⟩)
  rw [xs_cl (by omega : i < 4096), hk, nu_s1 (n := i) (by omega), hr h1, nu_s1 (n := sn (i - 1)) (by omega)]
  refine br_f (by decide) ⟨iv, br_f (by decide) ⟨iv, br_f (by decide) ⟨iv, br_f (by decide) ⟨iv, br_f (by decide) ?_⟩⟩⟩⟩
  refine ys_has h01 hs (by omega) hv hl ?_ ?_
  · intro h
    exact br_f (by decide) (H1 (Or.inl h))
  · intro h
    refine br_t rfl (ys_has h01 hs (by omega) hv hl ?_ ?_)
    · intro h'
      exact br_f (by decide) (H1 (Or.inr h'))
    · intro h'
      exact br_t rfl (H0 fun hh => hh.elim h h')
/-! write -/
def yb_Ag (C : Nat) (tb tb' : Nat → Int32) : Prop := ∀ s i c, s < 2 → i < 12 → i ≠ C → c < 1093 → tb' ((s * 12 + i) * 1093 + c) = tb ((s * 12 + i) * 1093 + c)
def yb_HB (C : Nat) (ok : Nat → Prop) (A : Nat → List Nat → Prop) (B : (Int32 → Prop) → (Nat → Int32) → Nat → List Nat → Prop) (tb : Nat → Int32) : Prop :=
  ∀ (tb' : Nat → Int32), yb_Ag C tb tb' → ys_01 tb' → ∀ (s : Nat) (w : List Nat), s < 2 → wo_V w → w.length ≤ 6 → (ok s → ∀ v, wo_V v → v.length < w.length → (ys_T tb' s C v ↔ A s v)) →
    ∀ rost : Int32 → Prop, (∀ r : Int32, (r = 0 ∨ r = 1) → (ok s → (r = 1 ↔ A s w)) → rost r) → B rost tb' s w
theorem yb_wL {C : Nat} (hC : C < 12) {ok : Nat → Prop} {A : Nat → List Nat → Prop} {tb0 : Nat → Int32}
    (HB : yb_HB C ok A (fun r t s w => wpY_belongs r (yz, ym, yw, nI C, yt, yd, yo, t, yk, ya, bf, yN, yV, yS) (nI s) (nI C) (nI (wo_cd w))) tb0) {s : Nat} (hs : s < 2) {J32 : Int32 → (Nat → Int32) → (Nat → Int32) → (Nat → Int32) → (Nat → Int32) → (Nat → Int32) → (Nat → Int32) → (Nat → Int32) → Prop}
    (H : ∀ tb2 : Nat → Int32, yb_Ag C tb0 tb2 → ys_01 tb2 → (∀ t, t ≤ s → ok t → ∀ w, wo_V w → w.length ≤ 6 → (ys_T tb2 t C w ↔ A t w)) → J32 (nI (s + 1)) tb2 yk ya bf yN yV yS) :
    ∀ (m c n : Nat) (tb : Nat → Int32), c + m = 1093 → m < n → yb_Ag C tb0 tb → ys_01 tb → (ok s → ∀ w, wo_V w → wo_cd w < c → (ys_T tb s C w ↔ A s w)) →
      (∀ t, t < s → ok t → ∀ w, wo_V w → w.length ≤ 6 → (ys_T tb t C w ↔ A t w)) → wY_write_40 post J32 (nI s) yz ym yw (nI C) yt yd yo n (nI c) tb yk ya bf yN yV yS := by
  intro m
  induction m with
  | zero =>
    intro c n tb hc hn hag h01 hd hp
    obtain ⟨n, rfl⟩ : ∃ m, n = m + 1 := ⟨n - 1, by omega⟩
    obtain rfl : c = 1093 := by omega
    refine br_t (by decide) (nm_r (nI_1 s) (H tb hag h01 fun t ht hok w hv hl => ?_))
    by_cases e : t = s
    · subst e
      exact hd hok w hv (yw_c6 hv hl)
    · exact hp t (by omega) hok w hv hl
  | succ m ih =>
    intro c n tb hc hn hag h01 hd hp
    obtain ⟨n, rfl⟩ : ∃ m, n = m + 1 := ⟨n - 1, by omega⟩
    obtain ⟨w, hv, e⟩ := wo_sur c
    have hl : w.length ≤ 6 := (wo_six hv).mp (by omega)
    subst e
    refine br_f (nI_ge (b := 1093) (by omega) (by omega)) ?_
    refine HB tb hag h01 s w hs hv hl (fun hok v hv' hlv => hd hok v hv' (wo_ltlen hv' hlv)) _ fun r hr hrA => ?_
    have ei : (nI s * 12 + nI C) * 1093 + nI (wo_cd w) = nI ((s * 12 + C) * 1093 + wo_cd w) := by rw [nu_m12, nI_add, nu_m1093, nI_add]
    have er : vp_nar .boolean r = r := by rcases hr with rfl | rfl <;> decide
    rw [ei, er]
    refine ⟨xs_in (by omega) (by omega), ?_⟩
    rw [nI_clamp (by omega)]
    refine nm_e (nm_r (nI_1 _) (ih _ n _ (by omega) (by omega) ?_ ?_ ?_ ?_))
    · intro t i c ht hi hiC hc
      rw [nu_un (by omega), hag t i c ht hi hiC hc]
    · intro j hj
      by_cases e : j = (s * 12 + C) * 1093 + wo_cd w
      · rw [e, nu_us]; exact hr
      · rw [nu_un e]; exact h01 j hj
    · intro hok v hv' hlt
      by_cases e : wo_cd v = wo_cd w
      · have e := wo_inj hv' hv e
        subst e
        unfold ys_T
        rw [nu_us]
        exact hrA hok
      · unfold ys_T
        rw [nu_un (by omega)]
        exact hd hok v hv' (by omega)
    · intro t ht hok v hv' hlv
      have := yw_c6 hv' hlv
      have hx : ys_T (upd tb ((s * 12 + C) * 1093 + wo_cd w) r) t C v ↔ ys_T tb t C v := by
        unfold ys_T
        rw [nu_un (by omega)]
      rw [hx]
      exact hp t ht hok v hv' hlv
theorem yb_write {C : Nat} (hC : C < 12) (k g : Int32) {ok : Nat → Prop} {A : Nat → List Nat → Prop} (h01 : ys_01 tb)
    (HB : yb_HB C ok A (fun r t s w => wpY_belongs r (yz, ym, yw, nI C, yt, yd, yo, t, upd yk C k, upd ya C g, bf, yN, yV, yS) (nI s) (nI C) (nI (wo_cd w))) tb)
    (H : ∀ tb2 : Nat → Int32, yb_Ag C tb tb2 → ys_01 tb2 → (∀ t, t < 2 → ok t → ∀ w, wo_V w → w.length ≤ 6 → (ys_T tb2 t C w ↔ A t w)) → post (yz, ym, yw, nI C, yt, yd, yo, tb2, upd yk C k, upd ya C g, bf, yN, yV, yS)) :
    wpY_write post (yz, ym, yw, nI C, yt, yd, yo, tb, yk, ya, bf, yN, yV, yS) k g := by
  unfold wpY_write
  dsimp only
  rw [xs_cl (by omega : C < 4096)]
  refine br_t (nI_lt (b := 12) hC (by omega)) ⟨xs_in hC (by omega), nm_e ⟨xs_in hC (by omega), nm_e ⟨3, ?_⟩⟩⟩
  refine br_f (by decide) ⟨1094, ?_⟩
  refine yb_wL hC HB (s := 0) (by omega) ?_ 1093 0 1094 tb (by omega) (by omega) (fun _ _ _ _ _ _ _ => rfl) h01 (fun _ _ _ h => by omega) (fun t ht => by omega)
  intro tb1 a1 b1 d1
  refine br_f (by decide) ⟨1094, ?_⟩
  refine yb_wL hC HB (s := 1) (by omega) ?_ 1093 0 1094 tb1 (by omega) (by omega) a1 b1 (fun _ _ _ h => by omega) (fun t ht => d1 t (by omega))
  intro tb2 a2 b2 d2
  exact br_t (by decide) (H tb2 a2 b2 fun t ht => d2 t (by omega))
end YB
end
section
section ZR
def zr_T (tb : Nat → Int32) (s i : Nat) : List Nat → Prop := fun w => wo_V w ∧ w.length ≤ 6 ∧ ys_T tb s i w
def zr_sn (st : Nat → Int32) : Nat → Nat := fun j => (st j).toNatClampNeg
/-- what is known of node i, by the two languages of each node -/
def zr_P (N : Nat) (kd : Nat → Int32) (sn : Nat → Nat) (T : Nat → Nat → List Nat → Prop) (ll lc ag : Nat → Int32) (i : Nat) : Prop :=
  ys_St kd sn i ∧ (kd i = 1 → ∃ c, c < 3 ∧ ag i = nI c) ∧ (kd i = 2 → ∀ w, T 0 i w ↔ T 0 (i - 1) w) ∧
  (kd i = 3 → ∀ s, s < 2 → (∀ w, wo_V w → w.length ≤ 6 → (T s i w ↔ wo_Sp (T s (sn (i - 1) - 1)) (T s (i - 1)) w)) ∧ ∀ w, wo_V w → w.length ≤ N → ¬ wo_Am (T s (sn (i - 1) - 1)) (T s (i - 1)) w) ∧
  (kd i = 4 → ∀ s, s < 2 → ¬ T s (i - 1) [] ∧ (∀ w, wo_V w → w.length ≤ 6 → (T s i w ↔ w = [] ∨ wo_Sp (T s (i - 1)) (T s i) w)) ∧ ∀ w, wo_V w → w.length ≤ N → ¬ wo_Am (T s (i - 1)) (T s i) w) ∧
  (kd i = 5 → ∀ s, s < 2 → ∀ w, T s i w ↔ T s (sn (i - 1) - 1) w ∨ T s (i - 1) w) ∧
  ∃ w, wo_V w ∧ 2 * w.length ≤ i - sn i + 2 ∧ ll i = nI w.length ∧ lc i = nI (wo_c4 w) ∧ T 0 i w ∧ ∀ v, T 0 i v → wo_cd w ≤ wo_cd v
def zr_A (em fi la fo le tb : Nat → Int32) (sn : Nat → Nat) (i : Nat) : Prop :=
  ∀ s, s < 2 → xa_In (sn i) i em fi la fo (s * 12 + i) ∧ ∀ w, wo_V w → w.length ≤ 6 → (xa_An em fi la fo le (s * 12 + i) w ↔ zr_T tb s i w)
def zr_B (N : Nat) (wd sz bf : Nat → Int32) : Prop := ∀ s, s < 2 → ∃ m, m ≤ N ∧ sz s = nI m ∧ bf s = nI (wo_cd (wo_sg (xf_f wd s) 0 m))
def zr_Rel (N M C : Nat) (kd ag st le ll lc em fi la fo wd sz tb yk ya bf : Nat → Int32) : Prop :=
  (2 ≤ N ∧ N ≤ 6 ∧ 4 ≤ M ∧ M ≤ 12 ∧ C ≤ M) ∧ xa_Le le ∧ xf_W wd ∧ ys_01 tb ∧ zr_B N wd sz bf ∧
  (∀ i, i < C → yk i = kd i ∧ ya i = ag i ∧ st i = nI (zr_sn st i)) ∧ (∀ i, i < C → zr_P N kd (zr_sn st) (zr_T tb) ll lc ag i) ∧ (∀ i, i < C → zr_A em fi la fo le tb (zr_sn st) i)
def i_Rel (k : Nat) (u : SX) (v : SY) : Prop := match u, v with
  | (xl, xm, xc, xn, xd, xt, kd, ag, st, le, ll, lc, em, fi, la, fo, pr, fr, wd, sz, ot, tN, tL, tH, tO, tP), (yz, ym, yw, yc, yt, yd, yo, tb, yk, ya, bf, yN, yV, yS) => ∃ N M C : Nat, xl = nI N ∧ xm = nI M ∧ xc = nI C ∧ xn = nI (ys_dp kd C) ∧ yz = nI N ∧ ym = nI M ∧ yw = nI (wo_ws N) ∧ yc = nI C ∧ zr_Rel N M C kd ag st le ll lc em fi la fo wd sz tb yk ya bf
theorem i_up {k : Nat} {u : SX} {v : SY} (h : i_Rel k u v) : i_Rel (k + 3) u v := h
theorem zr_el {k : Nat} {P : SX → SY → Prop} {u : SX} {v : SY}
    (h : ∀ (N M C : Nat) (xd xt : Int32) (kd ag st le ll lc em fi la fo pr fr wd sz ot tN tL tH tO tP : Nat → Int32) (yt yd yo : Int32) (tb yk ya bf yN yV yS : Nat → Int32),
      zr_Rel N M C kd ag st le ll lc em fi la fo wd sz tb yk ya bf → P (nI N, nI M, nI C, nI (ys_dp kd C), xd, xt, kd, ag, st, le, ll, lc, em, fi, la, fo, pr, fr, wd, sz, ot, tN, tL, tH, tO, tP) (nI N, nI M, nI (wo_ws N), nI C, yt, yd, yo, tb, yk, ya, bf, yN, yV, yS)) (I : i_Rel k u v) : P u v := by
  obtain ⟨xl, xm, xc, xn, xd, xt, kd, ag, st, le, ll, lc, em, fi, la, fo, pr, fr, wd, sz, ot, tN, tL, tH, tO, tP⟩ := u
  obtain ⟨yz, ym, yw, yc, yt, yd, yo, tb, yk, ya, bf, yN, yV, yS⟩ := v
  obtain ⟨N, M, C, rfl, rfl, rfl, rfl, rfl, rfl, rfl, rfl, R⟩ := I
  exact h N M C _ _ _ _ _ _ _ _ _ _ _ _ _ _ _ _ _ _ _ _ _ _ _ _ _ _ _ _ _ _ _ _ R
theorem zr_in {k N M C : Nat} {xd xt : Int32} {kd ag st le ll lc em fi la fo pr fr wd sz ot tN tL tH tO tP : Nat → Int32} {yt yd yo : Int32} {tb yk ya bf yN yV yS : Nat → Int32} {L : Int32} (hL : L = nI (ys_dp kd C))
    (R : zr_Rel N M C kd ag st le ll lc em fi la fo wd sz tb yk ya bf) : i_Rel k (nI N, nI M, nI C, L, xd, xt, kd, ag, st, le, ll, lc, em, fi, la, fo, pr, fr, wd, sz, ot, tN, tL, tH, tO, tP) (nI N, nI M, nI (wo_ws N), nI C, yt, yd, yo, tb, yk, ya, bf, yN, yV, yS) :=
  ⟨N, M, C, rfl, rfl, rfl, hL, rfl, rfl, rfl, rfl, R⟩
/-! frames -/
theorem zr_TF {C : Nat} {tb tb' : Nat → Int32} (h : yb_Ag C tb tb') {s j : Nat} (hs : s < 2) (hj : j < 12) (hjC : j ≠ C) : zr_T tb' s j = zr_T tb s j := by
  funext w
  unfold zr_T ys_T
  apply propext
  refine and_congr_right fun hv => and_congr_right fun hl => ?_
  rw [h s j _ hs hj hjC (yw_c6 hv hl)]
theorem zr_PF {N C : Nat} {kd kd' : Nat → Int32} {sn sn' : Nat → Nat} {T T' : Nat → Nat → List Nat → Prop} {ll ll' lc lc' ag ag' : Nat → Int32}
    (hk : ∀ j, j < C → kd' j = kd j) (hs : ∀ j, j < C → sn' j = sn j) (hT : ∀ s, s < 2 → ∀ j, j < C → T' s j = T s j) (hl : ∀ j, j < C → ll' j = ll j) (hc : ∀ j, j < C → lc' j = lc j) (ha : ∀ j, j < C → ag' j = ag j)
    (hsn : ∀ j, j < C → sn j ≤ j) {i : Nat} (hi : i < C) (h : zr_P N kd sn T ll lc ag i) : zr_P N kd' sn' T' ll' lc' ag' i := by
  have e1 := hk i hi
  have e2 := hs i hi
  have e3 := hs (i - 1) (by omega)
  have b3 := hsn (i - 1) (by omega)
  have e4 := hs (sn (i - 1) - 1) (by omega)
  have t0 : ∀ s, s < 2 → T' s i = T s i := fun s h => hT s h i hi
  have t1 : ∀ s, s < 2 → T' s (i - 1) = T s (i - 1) := fun s h => hT s h _ (by omega)
  have t2 : ∀ s, s < 2 → T' s (sn (i - 1) - 1) = T s (sn (i - 1) - 1) := fun s h => hT s h _ (by omega)
  obtain ⟨p1, p2, p3, p4, p5, p6, p7⟩ := h
  unfold zr_P
  rw [e1, hl i hi, hc i hi, ha i hi, e2, e3, t0 0 (by omega), t1 0 (by omega)]
  refine ⟨?_, p2, p3, fun hx s h2 => ?_, fun hx s h2 => ?_, fun hx s h2 => ?_, p7⟩
  · unfold ys_St at p1 ⊢
    rw [e1, e2, e3, e4]
    exact p1
  · rw [t0 s h2, t1 s h2, t2 s h2]
    exact p4 hx s h2
  · rw [t0 s h2, t1 s h2]
    exact p5 hx s h2
  · rw [t0 s h2, t1 s h2, t2 s h2]
    exact p6 hx s h2
theorem zr_sle {N M C : Nat} {kd ag st le ll lc em fi la fo wd sz tb yk ya bf : Nat → Int32} (R : zr_Rel N M C kd ag st le ll lc em fi la fo wd sz tb yk ya bf) :
    (∀ j, j < C → ys_St kd (zr_sn st) j) ∧ ∀ j, j < C → zr_sn st j ≤ j := by
  have h1 : ∀ j, j < C → ys_St kd (zr_sn st) j := fun j hj => (R.2.2.2.2.2.2.1 j hj).1
  exact ⟨h1, fun j hj => (ys_main j fun i hi => h1 i (by omega)).1⟩
def zr_FX (C : Nat) (em fi la fo em' fi' la' fo' : Nat → Int32) : Prop := ∀ s, s < 2 → ∀ j, j < C → em' (s * 12 + j) = em (s * 12 + j) ∧ fi' (s * 12 + j) = fi (s * 12 + j) ∧ la' (s * 12 + j) = la (s * 12 + j) ∧ ∀ q, q < 12 → fo' ((s * 12 + j) * 12 + q) = fo ((s * 12 + j) * 12 + q)
theorem zr_FXr {C : Nat} {em fi la fo : Nat → Int32} : zr_FX C em fi la fo em fi la fo := fun _ _ _ _ => ⟨rfl, rfl, rfl, fun _ _ => rfl⟩
theorem zr_FXt {C s : Nat} {em fi la fo em' fi' la' fo' em2 fi2 la2 fo2 : Nat → Int32} (hs : s < 2) (hC : C < 12) (h : zr_FX C em fi la fo em' fi' la' fo') (h2 : xe_Fr (s * 12 + C) em' fi' la' fo' em2 fi2 la2 fo2) : zr_FX C em fi la fo em2 fi2 la2 fo2 := by
  intro t ht j hj
  have ⟨a, b, c, d⟩ := h t ht j hj
  have ⟨a', b', c'⟩ := h2.1 (t * 12 + j) (by omega)
  refine ⟨a'.trans a, b'.trans b, c'.trans c, fun q hq => ?_⟩
  rw [h2.2 _ (by omega), d q hq]
theorem zr_AF {C : Nat} {em fi la fo le tb em' fi' la' fo' le' tb' : Nat → Int32} {sn sn' : Nat → Nat} (hC : C ≤ 12) (hx : zr_FX C em fi la fo em' fi' la' fo') (hle : ∀ j, j < C → le' j = le j) (hsn : ∀ j, j < C → sn' j = sn j)
    (hT : ∀ s, s < 2 → ∀ j, j < C → zr_T tb' s j = zr_T tb s j) {i : Nat} (hi : i < C) (h : zr_A em fi la fo le tb sn i) : zr_A em' fi' la' fo' le' tb' sn' i := by
  intro s hs
  have ⟨a, b, c, d⟩ := hx s hs i hi
  have ⟨h1, h2⟩ := h s hs
  have eG : xa_G fo' (s * 12 + i) = xa_G fo (s * 12 + i) := by
    funext p q
    unfold xa_G
    apply propext
    refine and_congr_right fun hp => ?_
    rw [d p hp]
  have eF : xa_F fi' (s * 12 + i) = xa_F fi (s * 12 + i) := by
    unfold xa_F
    rw [b]
  have eL : xa_L la' (s * 12 + i) = xa_L la (s * 12 + i) := by
    unfold xa_L
    rw [c]
  rw [hsn i hi, hT s hs i hi]
  refine ⟨?_, fun w hv hl => ?_⟩
  · unfold xa_In
    rw [eG, eF, eL, a]
    exact h1
  · rw [← h2 w hv hl]
    unfold xa_An
    rw [eG, eF, eL, a]
    refine au_AnC (xa_D (sn i) i) Iff.rfl (fun _ => Iff.rfl) h1.2.1 (fun _ _ _ => Iff.rfl) (fun p q _ hg => (h1.2.2.1 p q hg).2) (fun _ _ => Iff.rfl) ?_ w
    intro p c hp
    unfold xa_rd
    rw [hle p (by have := hp.2; omega)]
/-- nodes below C stay as they are -/
theorem zr_keep {N M C : Nat} {kd ag st le ll lc em fi la fo wd sz tb yk ya bf kd' ag' st' le' ll' lc' em' fi' la' fo' tb' yk' ya' : Nat → Int32}
    (R : zr_Rel N M C kd ag st le ll lc em fi la fo wd sz tb yk ya bf)
    (hk : ∀ j, j < C → kd' j = kd j) (ha : ∀ j, j < C → ag' j = ag j) (hst : ∀ j, j < C → st' j = st j) (hle : ∀ j, j < C → le' j = le j) (hl : ∀ j, j < C → ll' j = ll j) (hc : ∀ j, j < C → lc' j = lc j)
    (hx : zr_FX C em fi la fo em' fi' la' fo') (ht : yb_Ag C tb tb') (hyk : ∀ j, j < C → yk' j = yk j) (hya : ∀ j, j < C → ya' j = ya j) (hle' : xa_Le le') (h01 : ys_01 tb') :
    zr_Rel N M C kd' ag' st' le' ll' lc' em' fi' la' fo' wd sz tb' yk' ya' bf := by
  have ⟨hs1, hs2⟩ := zr_sle R
  obtain ⟨r1, r2, r3, r4, r5, r6, r7, r8⟩ := R
  have hsn : ∀ j, j < C → zr_sn st' j = zr_sn st j := fun j hj => by unfold zr_sn; rw [hst j hj]
  have hT : ∀ s, s < 2 → ∀ j, j < C → zr_T tb' s j = zr_T tb s j := fun s hs j hj => zr_TF ht hs (by omega) (by omega)
  refine ⟨r1, hle', r3, h01, r5, fun i hi => ?_, fun i hi => zr_PF hk hsn hT hl hc ha hs2 hi (r7 i hi), fun i hi => zr_AF (by omega) hx hle hsn hT hi (r8 i hi)⟩
  rw [hyk i hi, hya i hi, hk i hi, ha i hi, hst i hi, hsn i hi]
  exact r6 i hi
theorem zr_push {N M C : Nat} {kd ag st le ll lc em fi la fo wd sz tb yk ya bf : Nat → Int32} (R : zr_Rel N M C kd ag st le ll lc em fi la fo wd sz tb yk ya bf) (hC : C < M)
    (h6 : yk C = kd C ∧ ya C = ag C ∧ st C = nI (zr_sn st C)) (h7 : zr_P N kd (zr_sn st) (zr_T tb) ll lc ag C) (h8 : zr_A em fi la fo le tb (zr_sn st) C) :
    zr_Rel N M (C + 1) kd ag st le ll lc em fi la fo wd sz tb yk ya bf := by
  obtain ⟨r1, r2, r3, r4, r5, r6, r7, r8⟩ := R
  exact ⟨⟨r1.1, r1.2.1, r1.2.2.1, r1.2.2.2.1, hC⟩, r2, r3, r4, r5, lt_s r6 h6, lt_s r7 h7, lt_s r8 h8⟩
theorem zr_pop {N M C D : Nat} {kd ag st le ll lc em fi la fo wd sz tb yk ya bf : Nat → Int32} (R : zr_Rel N M C kd ag st le ll lc em fi la fo wd sz tb yk ya bf) (hD : D ≤ C) :
    zr_Rel N M D kd ag st le ll lc em fi la fo wd sz tb yk ya bf := by
  obtain ⟨r1, r2, r3, r4, r5, r6, r7, r8⟩ := R
  exact ⟨⟨r1.1, r1.2.1, r1.2.2.1, r1.2.2.2.1, by omega⟩, r2, r3, r4, r5, fun i hi => r6 i (by omega), fun i hi => r7 i (by omega), fun i hi => r8 i (by omega)⟩
theorem zr_words {N M C : Nat} {kd ag st le ll lc em fi la fo wd sz tb yk ya bf wd' sz' bf' : Nat → Int32} (R : zr_Rel N M C kd ag st le ll lc em fi la fo wd sz tb yk ya bf) (hw : xf_W wd') (hB : zr_B N wd' sz' bf') :
    zr_Rel N M C kd ag st le ll lc em fi la fo wd' sz' tb yk ya bf' := by
  obtain ⟨r1, r2, r3, r4, r5, r6, r7, r8⟩ := R
  exact ⟨r1, r2, hw, r4, hB, r6, r7, r8⟩
theorem zr_ySt {N M C : Nat} {kd ag st le ll lc em fi la fo wd sz tb yk ya bf : Nat → Int32} (R : zr_Rel N M C kd ag st le ll lc em fi la fo wd sz tb yk ya bf) : (∀ j, j < C → ys_St yk (zr_sn st) j) ∧ ys_dp yk C = ys_dp kd C := by
  have ⟨hs1, hs2⟩ := zr_sle R
  have e : ∀ j, j < C → yk j = kd j := fun j hj => (R.2.2.2.2.2.1 j hj).1
  refine ⟨fun j hj => ?_, ys_dpC e⟩
  have := hs1 j hj
  unfold ys_St at this ⊢
  rw [e j hj]
  exact this
end ZR
end
section
section ZE
/-! the constructors -/
theorem ze_X0 (k0 : Int32) : ∃ N, 2 ≤ N ∧ N ≤ 6 ∧ ∀ k1 : Int32,
    (∀ post : SX → Prop, wX_init_206 post k1 (nI N) 0 0 0 0 0 0 (fun _ => 0) (fun _ => 0) (fun _ => 0) (fun _ => 0) (fun _ => 0) (fun _ => 0) (fun _ => 0) (fun _ => 0) (fun _ => 0) (fun _ => 0) (fun _ => 0) (fun _ => 0) (fun _ => 0) (fun _ => 0) (fun _ => 0) (fun _ => 0) (fun _ => 0) (fun _ => 0) (fun _ => 0) (fun _ => 0) → wpX_init post k0 k1) ∧
    (∀ post : SY → Prop, wY_init_82 post k1 (nI N) 0 0 0 0 0 0 0 (fun _ => 0) (fun _ => 0) (fun _ => 0) (fun _ => 0) (fun _ => 0) (fun _ => 0) (fun _ => 0) → wpY_init post k0 k1) := by
  by_cases h2 : 2 ≤ k0
  · by_cases h6 : k0 ≤ 6
    · have h0 : ¬ k0 < 0 := fun h => by
        have := Int32.le_trans h2 (Int32.le_of_lt h)
        exact absurd this (by decide)
      obtain ⟨N, hN, rfl⟩ := nI_of2 (M := 6) (n := 6) (by decide) h0 h6
      refine ⟨N, (nI_leI (a := 2) (by omega) (by omega)).mp h2, hN, fun k1 => ⟨fun post h => br_t h2 (br_t h6 h), fun post h => br_t h2 (br_t h6 h)⟩⟩
    · exact ⟨6, by omega, by omega, fun k1 => ⟨fun post h => br_t h2 (br_f h6 h), fun post h => br_t h2 (br_f h6 h)⟩⟩
  · exact ⟨2, by omega, by omega, fun k1 => ⟨fun post h => br_f h2 h, fun post h => br_f h2 h⟩⟩
theorem ze_X1 (k1 z : Int32) : ∃ M, 4 ≤ M ∧ M ≤ 12 ∧
    (∀ post : SX → Prop, post (z, nI M, 0, 0, 0, 0, (fun _ => 0), (fun _ => 0), (fun _ => 0), (fun _ => 0), (fun _ => 0), (fun _ => 0), (fun _ => 0), (fun _ => 0), (fun _ => 0), (fun _ => 0), (fun _ => 0), (fun _ => 0), (fun _ => 0), (fun _ => 0), (fun _ => 0), (fun _ => 0), (fun _ => 0), (fun _ => 0), (fun _ => 0), (fun _ => 0)) →
      wX_init_206 post k1 z 0 0 0 0 0 0 (fun _ => 0) (fun _ => 0) (fun _ => 0) (fun _ => 0) (fun _ => 0) (fun _ => 0) (fun _ => 0) (fun _ => 0) (fun _ => 0) (fun _ => 0) (fun _ => 0) (fun _ => 0) (fun _ => 0) (fun _ => 0) (fun _ => 0) (fun _ => 0) (fun _ => 0) (fun _ => 0) (fun _ => 0) (fun _ => 0)) ∧
    (∀ post : SY → Prop, (∃ n, wY_init_117 post z (nI M) 0 0 0 0 (fun _ => 0) (fun _ => 0) (fun _ => 0) (fun _ => 0) (fun _ => 0) (fun _ => 0) (fun _ => 0) n 0 1) → wY_init_82 post k1 z 0 0 0 0 0 0 0 (fun _ => 0) (fun _ => 0) (fun _ => 0) (fun _ => 0) (fun _ => 0) (fun _ => 0) (fun _ => 0)) := by
  by_cases h2 : 4 ≤ k1
  · by_cases h6 : k1 ≤ 12
    · have h0 : ¬ k1 < 0 := fun h => by
        have := Int32.le_trans h2 (Int32.le_of_lt h)
        exact absurd this (by decide)
      obtain ⟨M, hM, rfl⟩ := nI_of2 (M := 12) (n := 12) (by decide) h0 h6
      exact ⟨M, (nI_leI (a := 4) (by omega) (by omega)).mp h2, hM, fun post h => br_t h2 (br_t h6 h), fun post h => br_t h2 (br_t h6 h)⟩
    · exact ⟨12, by omega, by omega, fun post h => br_t h2 (br_f h6 h), fun post h => br_t h2 (br_f h6 h)⟩
  · exact ⟨4, by omega, by omega, fun post h => br_f h2 h, fun post h => br_f h2 h⟩
variable {xl xm xc xn xd xt : Int32} {kd ag st le ll lc em fi la fo pr fr wd sz ot tN tL tH tO tP : Nat → Int32} {yz ym yw yc yt yd yo : Int32} {tb yk ya bf yN yV yS : Nat → Int32} {post : SY → Prop} {qost : Int32 → SY → Prop} {rost : Int32 → Prop}
theorem ze_wL {N : Nat} (hN : N ≤ 6) : ∀ (d i n : Nat), i + d = N → d < n → post (nI N, ym, nI (wo_ws N), yc, yt, yd, yo, tb, yk, ya, bf, yN, yV, yS) → wY_init_117 post (nI N) ym yc yt yd yo tb yk ya bf yN yV yS n (nI i) (nI (wo_ws i)) := by
  intro d
  induction d with
  | zero =>
    intro i n hi hn H
    obtain ⟨n, rfl⟩ : ∃ m, n = m + 1 := ⟨n - 1, by omega⟩
    obtain rfl : i = N := by omega
    exact br_t (nI_le (Nat.le_refl _) (by omega)) H
  | succ d ih =>
    intro i n hi hn H
    obtain ⟨n, rfl⟩ : ∃ m, n = m + 1 := ⟨n - 1, by omega⟩
    exact br_f (nI_ge (by omega) (by omega)) (nm_r (e' := nI (wo_ws (i + 1))) (by rw [nu_3m, nI_1]; rfl) (nm_r (nI_1 i) (ih (i + 1) n (by omega) (by omega) H)))
theorem i_vc0 (k0 : Int32) (k1 : Int32) : wpX_init (fun u => wpY_init (fun v => i_Rel 2 u v) k0 k1) k0 k1 := by
  obtain ⟨N, hN2, hN6, h⟩ := ze_X0 k0
  obtain ⟨M, hM4, hM12, hX, hY⟩ := ze_X1 k1 (nI N)
  refine (h k1).1 _ (hX _ ((h k1).2 _ (hY _ ⟨N + 1, ?_⟩)))
  refine ze_wL hN6 N 0 (N + 1) (by omega) (by omega) ?_
  refine ⟨N, M, 0, rfl, rfl, rfl, rfl, rfl, rfl, rfl, rfl, ⟨hN2, hN6, hM4, hM12, by omega⟩, fun p _ => ⟨0, by omega, rfl⟩, fun j _ => ⟨0, by omega, rfl⟩, fun j _ => Or.inl rfl, fun s _ => ⟨0, by omega, rfl, rfl⟩, fun i hi => by omega, fun i hi => by omega, fun i hi => by omega⟩
/-! the two sides -/
theorem ze_side (v1 : Int32) : (∃ s, s < 2 ∧ v1 = nI s) ∨ (¬ v1 = 0 ∧ ¬ v1 = 1) := by
  by_cases h0 : v1 = 0
  · exact Or.inl ⟨0, by omega, h0⟩
  · by_cases h1 : v1 = 1
    · exact Or.inl ⟨1, by omega, h1⟩
    · exact Or.inr ⟨h0, h1⟩
theorem ze_s {A B : Prop} {s : Nat} (hs : s < 2) (h : A) : ((nI s = 0 → A) ∧ (¬ nI s = 0 → ((nI s = 1 → A) ∧ (¬ nI s = 1 → B)))) := by
  have : s = 0 ∨ s = 1 := by omega
  rcases this with rfl | rfl
  · exact br_t rfl h
  · exact br_f (by decide) (br_t rfl h)
theorem ze_let (v2 : Int32) : v2 < 0 ∨ (¬ v2 < 0 ∧ ¬ v2 ≤ 2) ∨ ∃ c, c < 3 ∧ v2 = nI c := by
  by_cases h0 : v2 < 0
  · exact Or.inl h0
  · by_cases h2 : v2 ≤ 2
    · obtain ⟨c, hc, rfl⟩ := nI_of2 (M := 2) (n := 2) (by decide) h0 h2
      exact Or.inr (Or.inr ⟨c, by omega, rfl⟩)
    · exact Or.inr (Or.inl ⟨h0, h2⟩)
theorem ze_le2 {c : Nat} (hc : c < 3) : nI c ≤ 2 := nI_le (b := 2) (by omega) (by omega)
theorem ze_2in {s : Nat} (hs : s < 2) : vp_in (nI s) 2 := xs_in hs (by omega)
theorem i_vc_append {k : Nat} {u : SX} {v : SY} (I : i_Rel k u v) (hk : k + 3 ≤ 1538) (v1 : Int32) (v2 : Int32) : wpX_append (fun r u' => wpY_append (fun r' v' => r' = r ∧ i_Rel (k + 3) u' v') v v1 v2) u v1 v2 := by
  refine zr_el (P := fun u v => wpX_append (fun r u' => wpY_append (fun r' v' => r' = r ∧ i_Rel (k + 3) u' v') v v1 v2) u v1 v2) ?_ I
  intro N M C xd xt kd ag st le ll lc em fi la fo pr fr wd sz ot tN tL tH tO tP yt yd yo tb yk ya bf yN yV yS R
  have hR := R
  obtain ⟨⟨hN2, hN6, _⟩, _, hW, _, hB, _⟩ := R
  rcases ze_side v1 with ⟨s, hs, rfl⟩ | ⟨n0, n1⟩
  · obtain ⟨m, hm, e1, e2⟩ := hB s hs
    have cs : (nI s).toNatClampNeg = s := xs_cl (by omega)
    refine ze_s hs ?_
    rcases ze_let v2 with h | ⟨h, h'⟩ | ⟨c, hc, rfl⟩
    · exact br_t h (ze_s hs (br_t h ⟨rfl, zr_in rfl hR⟩))
    · exact br_f h (br_f h' (ze_s hs (br_f h (br_f h' ⟨rfl, zr_in rfl hR⟩))))
    · have h := nI_pos (n := c) (by omega)
      have h' := ze_le2 hc
      have hv : wo_V (wo_sg (xf_f wd s) 0 m) := xf_V hW hs (by omega)
      have hlm : (wo_sg (xf_f wd s) 0 m).length = m := wo_sgL _ _ _
      refine br_f h (br_t h' ⟨ze_2in hs, ?_⟩)
      rw [cs, e1]
      rcases Nat.lt_or_ge m N with hmN | hmN
      · refine br_t (nI_lt hmN (by omega)) ⟨ze_2in hs, xf_iv hs (by omega), ?_⟩
        rw [xf_ix hs (by omega)]
        refine nm_e ⟨ze_2in hs, ze_2in hs, nm_r (e' := upd sz s (nI (m + 1))) (by rw [nI_1]) ?_⟩
        refine ze_s hs (br_f h (br_t h' ⟨ze_2in hs, ?_⟩))
        rw [cs, e2]
        refine ys_len hv (by omega) ?_
        rw [hlm]
        refine br_t (nI_lt hmN (by omega)) ⟨ze_2in hs, ze_2in hs, nm_r (e' := upd bf s (nI (wo_cd (wo_sg (xf_f wd s) 0 m ++ [c])))) ?_ ⟨rfl, zr_in rfl (zr_words hR ?_ ?_)⟩⟩
        · rw [nu_3m, nI_add, nI_1, wo_snoc]
        · intro j hj
          by_cases e : j = s * 6 + m
          · rw [e, nu_us]
            exact ⟨c, hc, rfl⟩
          · rw [nu_un e]
            exact hW j hj
        · intro t ht
          by_cases e : t = s
          · subst e
            refine ⟨m + 1, by omega, nu_us, ?_⟩
            rw [nu_us, wo_sgS, Nat.zero_add]
            have q1 : wo_sg (xf_f (upd wd (t * 6 + m) (nI c)) t) 0 m = wo_sg (xf_f wd t) 0 m := wo_sgC fun i _ hi => by
              unfold xf_f
              rw [nu_un (by omega)]
            have q2 : xf_f (upd wd (t * 6 + m) (nI c)) t m = c := by
              unfold xf_f
              rw [nu_us, xs_cl (by omega)]
            rw [q1, q2]
          · obtain ⟨m', hm', e1', e2'⟩ := hB t ht
            refine ⟨m', hm', by rw [nu_un e]; exact e1', ?_⟩
            have q1 : wo_sg (xf_f (upd wd (s * 6 + m) (nI c)) t) 0 m' = wo_sg (xf_f wd t) 0 m' := wo_sgC fun i _ hi => by
              unfold xf_f
              rw [nu_un (by omega)]
            rw [nu_un e, q1]
            exact e2'
      · refine br_f (nI_nlt hmN (by omega)) ?_
        refine ze_s hs (br_f h (br_t h' ⟨ze_2in hs, ?_⟩))
        rw [cs, e2]
        refine ys_len hv (by omega) ?_
        rw [hlm]
        exact br_f (nI_nlt hmN (by omega)) ⟨rfl, zr_in rfl hR⟩
  · exact br_f n0 (br_f n1 (br_f n0 (br_f n1 ⟨rfl, zr_in rfl hR⟩)))
theorem ze_clrB {N s : Nat} {wd sz bf : Nat → Int32} (hB : zr_B N wd sz bf) : zr_B N wd (upd sz s 0) (upd bf s 0) := by
  intro t ht
  by_cases e : t = s
  · subst e
    exact ⟨0, by omega, nu_us, nu_us⟩
  · rw [nu_un e, nu_un e]
    exact hB t ht
theorem i_vc_clear {k : Nat} {u : SX} {v : SY} (I : i_Rel k u v) (hk : k + 3 ≤ 1538) (v1 : Int32) : wpX_clear (fun r u' => wpY_clear (fun r' v' => r' = r ∧ i_Rel (k + 3) u' v') v v1) u v1 := by
  refine zr_el (P := fun u v => wpX_clear (fun r u' => wpY_clear (fun r' v' => r' = r ∧ i_Rel (k + 3) u' v') v v1) u v1) ?_ I
  intro N M C xd xt kd ag st le ll lc em fi la fo pr fr wd sz ot tN tL tH tO tP yt yd yo tb yk ya bf yN yV yS R
  have hR := R
  obtain ⟨⟨hN2, hN6, _⟩, _, hW, _, hB, _⟩ := R
  rcases ze_side v1 with ⟨s, hs, rfl⟩ | ⟨n0, n1⟩
  · have cs : (nI s).toNatClampNeg = s := xs_cl (by omega)
    have fin : vp_in (nI s) 2 ∧ ∀ sz' : Nat → Int32, sz' = upd sz (nI s).toNatClampNeg 0 → wpY_clear (fun r' v' => r' = 0 ∧ i_Rel (k + 3) (nI N, nI M, nI C, nI (ys_dp kd C), xd, xt, kd, ag, st, le, ll, lc, em, fi, la, fo, pr, fr, wd, sz', ot, tN, tL, tH, tO, tP) v') (nI N, nI M, nI (wo_ws N), nI C, yt, yd, yo, tb, yk, ya, bf, yN, yV, yS) (nI s) := by
      refine ⟨ze_2in hs, ?_⟩
      rw [cs]
      refine nm_e ?_
      have fin2 : vp_in (nI s) 2 ∧ ∀ bf' : Nat → Int32, bf' = upd bf (nI s).toNatClampNeg 0 → ((0 : Int32) = 0 ∧ i_Rel (k + 3) (nI N, nI M, nI C, nI (ys_dp kd C), xd, xt, kd, ag, st, le, ll, lc, em, fi, la, fo, pr, fr, wd, upd sz s 0, ot, tN, tL, tH, tO, tP) (nI N, nI M, nI (wo_ws N), nI C, yt, yd, yo, tb, yk, ya, bf', yN, yV, yS)) := by
        refine ⟨ze_2in hs, ?_⟩
        rw [cs]
        exact nm_e ⟨rfl, zr_in rfl (zr_words hR hW (ze_clrB hB))⟩
      exact ze_s hs fin2
    exact ze_s hs fin
  · exact br_f n0 (br_f n1 (br_f n0 (br_f n1 ⟨rfl, zr_in rfl hR⟩)))
theorem ze_rem {a : Nat} (ha : a < 2 ^ 31) : nI a - nI a / 3 * 3 = nI (a % 3) := by
  rw [nu_d3 ha, nu_m3, nu_s (by omega)]
  congr 1
  omega
theorem ze_latL {w : List Nat} (hv : wo_V w) (hl : w.length ≤ 6) {i : Nat} (hi : i < w.length) : ∀ (d j n : Nat), j = i + d → j < w.length → d < n → rost (nI w[i]) → wY_letterAt_43 rost (nI i) yz ym yw yc yt yd yo tb yk ya bf yN yV yS n (nI (wo_cd (w.take (j + 1)))) (nI j) := by
  intro d
  induction d with
  | zero =>
    intro j n hj hjl hn H
    obtain ⟨n, rfl⟩ : ∃ m, n = m + 1 := ⟨n - 1, by omega⟩
    obtain rfl : j = i := by omega
    have h6 := yw_c6 (wo_Vt hv (j + 1)) (by rw [List.length_take]; omega)
    have hp : 0 < wo_cd (w.take (j + 1)) := by
      rw [wo_take hjl, wo_snoc]
      omega
    refine br_t (nI_le (Nat.le_refl _) (by omega)) ⟨by decide, ?_⟩
    rw [nu_s1 hp, ze_rem (by omega), wo_last hv hjl]
    exact H
  | succ d ih =>
    intro j n hj hjl hn H
    obtain ⟨n, rfl⟩ : ∃ m, n = m + 1 := ⟨n - 1, by omega⟩
    have h6 := yw_c6 (wo_Vt hv (j + 1)) (by rw [List.length_take]; omega)
    have hp : 0 < wo_cd (w.take (j + 1)) := by
      rw [wo_take hjl, wo_snoc]
      omega
    refine br_f (nI_ge (by omega) (by omega)) ⟨by decide, nm_r (e' := nI (wo_cd (w.take j))) ?_ (nm_r (nu_p1 (by omega)) ?_)⟩
    · rw [nu_s1 hp, nu_d3 (by omega), wo_pre hv hjl]
    · have := ih (j - 1) n (by omega) (by omega) (by omega) H
      rw [show j - 1 + 1 = j by omega] at this
      exact this
theorem i_vc_letterAt {k : Nat} {u : SX} {v : SY} (I : i_Rel k u v) (hk : k + 3 ≤ 1538) (v1 : Int32) (v2 : Int32) : wpX_letterAt (fun r => wpY_letterAt (fun r' => r' = r ∧ i_Rel (k + 3) u v) v v1 v2) u v1 v2 := by
  refine zr_el (P := fun u v => wpX_letterAt (fun r => wpY_letterAt (fun r' => r' = r ∧ i_Rel (k + 3) u v) v v1 v2) u v1 v2) ?_ I
  intro N M C xd xt kd ag st le ll lc em fi la fo pr fr wd sz ot tN tL tH tO tP yt yd yo tb yk ya bf yN yV yS R
  have hR := R
  obtain ⟨⟨hN2, hN6, _⟩, _, hW, _, hB, _⟩ := R
  rcases ze_side v1 with ⟨s, hs, rfl⟩ | ⟨n0, n1⟩
  · obtain ⟨m, hm, e1, e2⟩ := hB s hs
    have cs : (nI s).toNatClampNeg = s := xs_cl (by omega)
    have hv : wo_V (wo_sg (xf_f wd s) 0 m) := xf_V hW hs (by omega)
    have hlm : (wo_sg (xf_f wd s) 0 m).length = m := wo_sgL _ _ _
    have Y : ∀ rost : Int32 → Prop, ((v2 < 0 → rost (-1)) ∧ (¬ v2 < 0 → ((v2 < nI m → (∀ x5 : Int32, x5 = nI m - 1 → ∃ n43 : Nat, wY_letterAt_43 rost v2 (nI N) (nI M) (nI (wo_ws N)) (nI C) yt yd yo tb yk ya bf yN yV yS n43 (nI (wo_cd (wo_sg (xf_f wd s) 0 m))) x5)) ∧ (¬ v2 < nI m → rost (-1))))) →
        wpY_letterAt rost (nI N, nI M, nI (wo_ws N), nI C, yt, yd, yo, tb, yk, ya, bf, yN, yV, yS) (nI s) v2 := by
      intro rost H
      refine ze_s hs ⟨ze_2in hs, ?_⟩
      rw [cs, e2]
      refine nm_e (ys_len hv (by omega) ?_)
      rw [hlm]
      exact H
    refine ze_s hs ?_
    by_cases h : v2 < 0
    · exact br_t h (Y _ (br_t h ⟨rfl, zr_in rfl hR⟩))
    · refine br_f h ⟨ze_2in hs, ?_⟩
      rw [cs, e1]
      by_cases h' : v2 < nI m
      · obtain ⟨j, hj, rfl⟩ := nI_of h
        have hjm := (nI_ltI hj (by omega)).mp h'
        have hg : (wo_sg (xf_f wd s) 0 m)[j]'(by omega) = xf_f wd s j := by
          rw [wo_sgG (by omega), Nat.zero_add]
        refine br_t h' ⟨xf_iv hs (by omega), ?_⟩
        rw [xf_ix hs (by omega), (xf_w hW hs (by omega)).2]
        refine Y _ (br_f h (br_t h' (nm_r (nu_s1 (by omega)) ⟨m - 1 - j + 1, ?_⟩)))
        have := ze_latL (rost := fun r' => r' = nI (xf_f wd s j) ∧ i_Rel (k + 3) (nI N, nI M, nI C, nI (ys_dp kd C), xd, xt, kd, ag, st, le, ll, lc, em, fi, la, fo, pr, fr, wd, sz, ot, tN, tL, tH, tO, tP) (nI N, nI M, nI (wo_ws N), nI C, yt, yd, yo, tb, yk, ya, bf, yN, yV, yS)) (yz := nI N) (ym := nI M) (yw := nI (wo_ws N)) (yc := nI C) (yt := yt) (yd := yd) (yo := yo) (tb := tb) (yk := yk) (ya := ya) (bf := bf) (yN := yN) (yV := yV) (yS := yS)
          hv (by omega) (i := j) (by omega) (m - 1 - j) (m - 1) (m - 1 - j + 1) (by omega) (by omega) (by omega) ⟨by rw [hg], zr_in rfl hR⟩
        rw [show m - 1 + 1 = m by omega, show (wo_sg (xf_f wd s) 0 m).take m = wo_sg (xf_f wd s) 0 m from List.take_of_length_le (by omega)] at this
        exact this
      · exact br_f h' (Y _ (br_f h (br_f h' ⟨rfl, zr_in rfl hR⟩)))
  · exact br_f n0 (br_f n1 (br_f n0 (br_f n1 ⟨rfl, zr_in rfl hR⟩)))
theorem ze_len {N M C : Nat} {kd ag st le ll lc em fi la fo wd sz tb yk ya bf : Nat → Int32} (R : zr_Rel N M C kd ag st le ll lc em fi la fo wd sz tb yk ya bf) : (C = 0 ∧ ys_dp kd C = 0) ∨ (1 ≤ C ∧ 1 ≤ ys_dp kd C) := by
  rcases Nat.eq_zero_or_pos C with h | h
  · subst h
    exact Or.inl ⟨rfl, rfl⟩
  · exact Or.inr ⟨h, ys_pos (zr_sle R).1 h⟩
theorem i_vc_depth {k : Nat} {u : SX} {v : SY} (I : i_Rel k u v) (hk : k + 3 ≤ 1538) : wpX_depth (fun r => wpY_depth (fun r' => r' = r ∧ i_Rel (k + 3) u v) v) u := by
  refine zr_el (P := fun u v => wpX_depth (fun r => wpY_depth (fun r' => r' = r ∧ i_Rel (k + 3) u v) v) u) ?_ I
  intro N M C xd xt kd ag st le ll lc em fi la fo pr fr wd sz ot tN tL tH tO tP yt yd yo tb yk ya bf yN yV yS R
  have hy := zr_ySt R
  have hC := R.1
  refine ys_depth (by omega) hy.1 ⟨by rw [hy.2], zr_in rfl R⟩
theorem i_vc_node {k : Nat} {u : SX} {v : SY} (I : i_Rel k u v) (hk : k + 3 ≤ 1538) (v1 : Int32) : wpX_node (fun r => wpY_node (fun r' => r' = r ∧ i_Rel (k + 3) u v) v v1) u v1 := by
  refine zr_el (P := fun u v => wpX_node (fun r => wpY_node (fun r' => r' = r ∧ i_Rel (k + 3) u v) v v1) u v1) ?_ I
  intro N M C xd xt kd ag st le ll lc em fi la fo pr fr wd sz ot tN tL tH tO tP yt yd yo tb yk ya bf yN yV yS R
  have hC := R.1
  by_cases h : v1 < 0
  · exact br_t h (br_t h ⟨rfl, zr_in rfl R⟩)
  · obtain ⟨j, hj, rfl⟩ := nI_of h
    by_cases h' : nI j < nI C
    · have hjC := (nI_ltI hj (by omega)).mp h'
      have iv : vp_in (nI j) 12 := xs_in (by omega) (by omega)
      have e := R.2.2.2.2.2.1 j hjC
      refine br_f h (br_t h' ⟨iv, iv, br_f h (br_t h' ⟨iv, iv, ?_, zr_in rfl R⟩)⟩)
      rw [xs_cl (by omega), e.1, e.2.1]
    · exact br_f h (br_f h' (br_f h (br_f h' ⟨rfl, zr_in rfl R⟩)))
theorem i_vc_drop {k : Nat} {u : SX} {v : SY} (I : i_Rel k u v) (hk : k + 3 ≤ 1538) : wpX_drop (fun r u' => wpY_drop (fun r' v' => r' = r ∧ i_Rel (k + 3) u' v') v) u := by
  refine zr_el (P := fun u v => wpX_drop (fun r u' => wpY_drop (fun r' v' => r' = r ∧ i_Rel (k + 3) u' v') v) u) ?_ I
  intro N M C xd xt kd ag st le ll lc em fi la fo pr fr wd sz ot tN tL tH tO tP yt yd yo tb yk ya bf yN yV yS R
  have hy := zr_ySt R
  have hC := R.1
  have dl := ys_dpl (kd := kd) C
  rcases ze_len R with ⟨h0, d0⟩ | ⟨h1, d1⟩
  · have : ¬ (1 : Int32) ≤ nI (ys_dp kd C) := nI_ge (b := 1) (by omega) (by omega)
    refine br_f this (br_t (by rw [h0]; rfl) ⟨rfl, zr_in rfl R⟩)
  · have sm := ys_main (kd := kd) (sn := zr_sn st) (C - 1) fun j hj => (zr_sle R).1 j (by omega)
    rw [show C - 1 + 1 = C by omega] at sm
    refine br_t (nI_le (a := 1) d1 (by omega)) ?_
    show vp_in (nI C - 1) 12 ∧ _
    rw [nu_s1 (n := C) (by omega)]
    refine ⟨xs_in (by omega) (by omega), ?_⟩
    rw [xs_cl (by omega), (R.2.2.2.2.2.1 (C - 1) (by omega)).2.2]
    refine nm_e (nm_r (e' := nI (ys_dp kd (zr_sn st (C - 1)))) ?_ ?_)
    · rw [nu_s1 (by omega)]
      congr 1
      omega
    · refine br_f (nI_ne0 (by omega) (by omega)) ?_
      rw [nu_s1 (n := C) (by omega)]
      refine ys_start (by omega) (fun j hj => hy.1 j (by omega)) ⟨rfl, zr_in rfl (zr_pop R (by omega))⟩
/-- membership, both sides -/
theorem ze_mem {N M C : Nat} {kd ag st le ll lc em fi la fo wd sz tb yk ya bf : Nat → Int32} (R : zr_Rel N M C kd ag st le ll lc em fi la fo wd sz tb yk ya bf) (h1 : 1 ≤ C) {s : Nat} (hs : s < 2) :
    ∃ m, m ≤ N ∧ sz s = nI m ∧ bf s = nI (wo_cd (wo_sg (xf_f wd s) 0 m)) ∧ ∃ b : Int32, (b = 0 ∨ b = 1) ∧ (b = 1 ↔ zr_T tb s (C - 1) (wo_sg (xf_f wd s) 0 m)) ∧
    (∀ (rost : Int32 → Prop) (xd xt : Int32) (pr fr ot tN tL tH tO tP : Nat → Int32), rost b → wpX_member rost (nI N, nI M, nI C, nI (ys_dp kd C), xd, xt, kd, ag, st, le, ll, lc, em, fi, la, fo, pr, fr, wd, sz, ot, tN, tL, tH, tO, tP) (nI s)) ∧
    (∀ (rost : Int32 → Prop) (yt yd yo : Int32) (yN yV yS : Nat → Int32), rost b → wpY_member rost (nI N, nI M, nI (wo_ws N), nI C, yt, yd, yo, tb, yk, ya, bf, yN, yV, yS) (nI s)) := by
  have hR := R
  obtain ⟨⟨hN2, hN6, _, _, _⟩, _, hW, h01, hB, _, _, hA⟩ := R
  obtain ⟨m, hm, e1, e2⟩ := hB s hs
  have hv : wo_V (wo_sg (xf_f wd s) 0 m) := xf_V hW hs (by omega)
  have hlm : (wo_sg (xf_f wd s) 0 m).length = m := wo_sgL _ _ _
  have cs : (nI s).toNatClampNeg = s := xs_cl (by omega)
  have dl := ys_dpl (kd := kd) C
  have d1 : 1 ≤ ys_dp kd C := by
    rcases ze_len hR with h | h <;> omega
  have ⟨hin, hac⟩ := hA (C - 1) (by omega) s hs
  have hT := hac _ hv (by omega)
  have hT2 : zr_T tb s (C - 1) (wo_sg (xf_f wd s) 0 m) ↔ ys_T tb s (C - 1) (wo_sg (xf_f wd s) 0 m) := ⟨fun h => h.2.2, fun h => ⟨hv, by omega, h⟩⟩
  have X : ∀ (b : Int32), (b = 0 ∨ b = 1) → (b = 1 ↔ zr_T tb s (C - 1) (wo_sg (xf_f wd s) 0 m)) → ∀ (rost : Int32 → Prop) (xd xt : Int32) (pr fr ot tN tL tH tO tP : Nat → Int32), rost b → wpX_member rost (nI N, nI M, nI C, nI (ys_dp kd C), xd, xt, kd, ag, st, le, ll, lc, em, fi, la, fo, pr, fr, wd, sz, ot, tN, tL, tH, tO, tP) (nI s) := by
    intro b hb hbT rost xd xt pr fr ot tN tL tH tO tP H
    refine br_f (nI_nlt (b := 1) d1 (by omega)) (ze_s hs ⟨ze_2in hs, ?_⟩)
    rw [cs, e1, nu_s1 (n := C) (by omega)]
    refine xf_acc (lo := 0) (by omega) hs (by omega) (by omega) hW hin ?_ ?_
    · intro h
      refine ⟨rfl, ?_⟩
      rw [← hbT.mpr (hT.mp h)]
      exact H
    · intro h
      refine ⟨rfl, ?_⟩
      have : b = 0 := hb.elim id fun h' => absurd (hT.mpr (hbT.mp h')) h
      rw [← this]
      exact H
  have Y : ∀ (b : Int32), (b = 0 ∨ b = 1) → (b = 1 ↔ zr_T tb s (C - 1) (wo_sg (xf_f wd s) 0 m)) → ∀ (rost : Int32 → Prop) (yt yd yo : Int32) (yN yV yS : Nat → Int32), rost b → wpY_member rost (nI N, nI M, nI (wo_ws N), nI C, yt, yd, yo, tb, yk, ya, bf, yN, yV, yS) (nI s) := by
    intro b hb hbT rost yt yd yo yN yV yS H
    refine br_f (nI_ne0 (by omega) (by omega)) (ze_s hs ⟨ze_2in hs, ?_⟩)
    rw [cs, e2, nu_s1 (n := C) (by omega)]
    refine ys_has h01 hs (by omega) hv (by omega) ?_ ?_
    · intro h
      refine ⟨rfl, ?_⟩
      rw [← hbT.mpr (hT2.mpr h)]
      exact H
    · intro h
      refine ⟨rfl, ?_⟩
      have : b = 0 := hb.elim id fun h' => absurd (hT2.mp (hbT.mp h')) h
      rw [← this]
      exact H
  refine ⟨m, hm, e1, e2, ?_⟩
  by_cases h : zr_T tb s (C - 1) (wo_sg (xf_f wd s) 0 m)
  · have hb : (1 : Int32) = 1 ↔ zr_T tb s (C - 1) (wo_sg (xf_f wd s) 0 m) := ⟨fun _ => h, fun _ => rfl⟩
    exact ⟨1, Or.inr rfl, hb, X 1 (Or.inr rfl) hb, Y 1 (Or.inr rfl) hb⟩
  · have hb : (0 : Int32) = 1 ↔ zr_T tb s (C - 1) (wo_sg (xf_f wd s) 0 m) := ⟨fun h' => absurd h' (by decide), fun h' => absurd h' h⟩
    exact ⟨0, Or.inl rfl, hb, X 0 (Or.inl rfl) hb, Y 0 (Or.inl rfl) hb⟩
theorem i_vc_member {k : Nat} {u : SX} {v : SY} (I : i_Rel k u v) (hk : k + 3 ≤ 1538) (v1 : Int32) : wpX_member (fun r => wpY_member (fun r' => r' = r ∧ i_Rel (k + 3) u v) v v1) u v1 := by
  refine zr_el (P := fun u v => wpX_member (fun r => wpY_member (fun r' => r' = r ∧ i_Rel (k + 3) u v) v v1) u v1) ?_ I
  intro N M C xd xt kd ag st le ll lc em fi la fo pr fr wd sz ot tN tL tH tO tP yt yd yo tb yk ya bf yN yV yS R
  have hC := R.1
  have dl := ys_dpl (kd := kd) C
  rcases ze_len R with ⟨h0, d0⟩ | ⟨h1, d1⟩
  · exact br_t (nI_lt (b := 1) (by omega) (by omega)) (br_t (by rw [h0]; rfl) ⟨rfl, zr_in rfl R⟩)
  · rcases ze_side v1 with ⟨s, hs, rfl⟩ | ⟨n0, n1⟩
    · obtain ⟨m, hm, e1, e2, b, _, _, X, Y⟩ := ze_mem R h1 hs
      exact X _ _ _ _ _ _ _ _ _ _ _ (Y _ _ _ _ _ _ _ ⟨rfl, zr_in rfl R⟩)
    · exact br_f (nI_nlt (b := 1) d1 (by omega)) (br_f n0 (br_f n1 (br_f (nI_ne0 (by omega) (by omega)) (br_f n0 (br_f n1 ⟨rfl, zr_in rfl R⟩)))))
end ZE
end
section
section ZB
theorem zb_sn {st : Nat → Int32} {C B : Nat} (hB : B < 4096) : zr_sn (upd st C (nI B)) C = B := by
  unfold zr_sn
  rw [nu_us, xs_cl hB]
theorem zb_snj {st : Nat → Int32} {C j : Nat} {x : Int32} (hj : j ≠ C) : zr_sn (upd st C x) j = zr_sn st j := by
  unfold zr_sn
  rw [nu_un hj]
theorem zb_V {em fi la fo le : Nat → Int32} {a : Nat} {w : List Nat} (h : xa_An em fi la fo le a w) : wo_V w := au_AnV (xe_rd le) h
/-- the tables at work and X's automata: nodes below C -/
theorem zb_TL {N M C : Nat} {kd ag st le ll lc em fi la fo wd sz tb yk ya bf tb' : Nat → Int32} (R : zr_Rel N M C kd ag st le ll lc em fi la fo wd sz tb yk ya bf) (h : yb_Ag C tb tb') {s j : Nat} (hs : s < 2) (hj : j < C)
    {w : List Nat} (hv : wo_V w) (hl : w.length ≤ 6) : ys_T tb' s j w ↔ xa_An em fi la fo le (s * 12 + j) w := by
  have hC := R.1
  rw [((R.2.2.2.2.2.2.2 j hj) s hs).2 w hv hl]
  have e : zr_T tb' s j = zr_T tb s j := zr_TF h hs (by omega) (by omega)
  rw [← e]
  exact ⟨fun h => ⟨hv, hl, h⟩, fun h => h.2.2⟩
theorem zb_TA {N M C : Nat} {kd ag st le ll lc em fi la fo wd sz tb yk ya bf tb' : Nat → Int32} (R : zr_Rel N M C kd ag st le ll lc em fi la fo wd sz tb yk ya bf) (h : yb_Ag C tb tb') {s j : Nat} (hs : s < 2) (hj : j < C)
    {w : List Nat} (hl : w.length ≤ 6) : zr_T tb' s j w ↔ xa_An em fi la fo le (s * 12 + j) w := by
  constructor
  · intro h2
    exact (zb_TL R h hs hj h2.1 h2.2.1).mp h2.2.2
  · intro h2
    have hv := zb_V h2
    exact ⟨hv, hl, (zb_TL R h hs hj hv hl).mpr h2⟩
theorem zb_Agr {C : Nat} {tb : Nat → Int32} : yb_Ag C tb tb := fun _ _ _ _ _ _ _ => rfl
theorem zb_dp0 {kd : Nat → Int32} {C : Nat} {x : Int32} (h : x = 0 ∨ x = 1) : ys_dp (upd kd C x) (C + 1) = ys_dp kd C + 1 := by
  rw [ys_dp0 (by rw [nu_us]; exact h), ys_dpC fun i hi => nu_un (by omega)]
theorem zb_dp2 {kd : Nat → Int32} {C : Nat} {x : Int32} (h : x = 2 ∨ x = 4) : ys_dp (upd kd C x) (C + 1) = ys_dp kd C := by
  rw [ys_dp2 (by rw [nu_us]; exact h), ys_dpC fun i hi => nu_un (by omega)]
theorem zb_dp3 {kd : Nat → Int32} {C : Nat} {x : Int32} (h : x = 3 ∨ x = 5) : ys_dp (upd kd C x) (C + 1) = ys_dp kd C - 1 := by
  rw [ys_dp3 (by rw [nu_us]; exact h), ys_dpC fun i hi => nu_un (by omega)]
theorem zb_ySt {N M C : Nat} {kd ag st le ll lc em fi la fo wd sz tb yk ya bf : Nat → Int32} (R : zr_Rel N M C kd ag st le ll lc em fi la fo wd sz tb yk ya bf) (x : Int32) : ∀ j, j < C → ys_St (upd yk C x) (zr_sn st) j := by
  intro j hj
  have := (zr_ySt R).1 j hj
  unfold ys_St at this ⊢
  rw [nu_un (by omega)]
  exact this
/-- X has built node C, Y writes and counts it -/
theorem zb_fin {N M C k B : Nat} {kd ag st le ll lc em fi la fo wd sz tb yk ya bf le' ll' lc' em' fi' la' fo' : Nat → Int32} (R : zr_Rel N M C kd ag st le ll lc em fi la fo wd sz tb yk ya bf) (hC : C < M) (hBC : B ≤ C) {x g : Int32}
    (hx : zr_FX C em fi la fo em' fi' la' fo') (hle : ∀ j, j < C → le' j = le j) (hLe : xa_Le le') (hll : ∀ j, j < C → ll' j = ll j) (hlc : ∀ j, j < C → lc' j = lc j)
    (hI : ∀ s, s < 2 → xa_In B C em' fi' la' fo' (s * 12 + C)) {L : Int32} (hL : L = nI (ys_dp (upd kd C x) (C + 1))) {yt yd yo : Int32} {yN yV yS : Nat → Int32}
    (HB : yb_HB C (fun _ => True) (fun s w => xa_An em' fi' la' fo' le' (s * 12 + C) w) (fun r t s w => wpY_belongs r (nI N, nI M, nI (wo_ws N), nI C, yt, yd, yo, t, upd yk C x, upd ya C g, bf, yN, yV, yS) (nI s) (nI C) (nI (wo_cd w))) tb)
    (HP : ∀ tb2 : Nat → Int32, yb_Ag C tb tb2 → (∀ s, s < 2 → ∀ w, zr_T tb2 s C w ↔ w.length ≤ 6 ∧ xa_An em' fi' la' fo' le' (s * 12 + C) w) → zr_P N (upd kd C x) (zr_sn (upd st C (nI B))) (zr_T tb2) ll' lc' (upd ag C g) C)
    {xd xt : Int32} {pr fr ot tN tL tH tO tP : Nat → Int32} {r : Int32} (hr : r = 0) :
    wpY_write (fun u => match u with | (yz, ym, yw, yc, yt, yd, yo, tb, yk, ya, bf, yN, yV, yS) => (∀ yc' : Int32, yc' = yc + 1 → ((0 : Int32) = r ∧ i_Rel k (nI N, nI M, nI (C + 1), L, xd, xt, upd kd C x, upd ag C g, upd st C (nI B), le', ll', lc', em', fi', la', fo', pr, fr, wd, sz, ot, tN, tL, tH, tO, tP) (yz, ym, yw, yc', yt, yd, yo, tb, yk, ya, bf, yN, yV, yS)))) (nI N, nI M, nI (wo_ws N), nI C, yt, yd, yo, tb, yk, ya, bf, yN, yV, yS) x g := by
  have hM := R.1
  refine yb_write (by omega) x g R.2.2.2.1 HB fun tb2 hag h01 hT => ?_
  refine nm_r (nI_1 C) ⟨hr.symm, zr_in hL ?_⟩
  have hT2 : ∀ s, s < 2 → ∀ w, zr_T tb2 s C w ↔ w.length ≤ 6 ∧ xa_An em' fi' la' fo' le' (s * 12 + C) w := by
    intro s hs w
    constructor
    · rintro ⟨hv, hl, h⟩
      exact ⟨hl, (hT s hs trivial w hv hl).mp h⟩
    · rintro ⟨hl, h⟩
      have hv := zb_V h
      exact ⟨hv, hl, (hT s hs trivial w hv hl).mpr h⟩
  refine zr_push (zr_keep R (fun j hj => nu_un (by omega)) (fun j hj => nu_un (by omega)) (fun j hj => nu_un (by omega)) hle hll hlc hx hag (fun j hj => nu_un (by omega)) (fun j hj => nu_un (by omega)) hLe h01) hC ?_ (HP tb2 hag hT2) ?_
  · rw [nu_us, nu_us, nu_us, nu_us, nu_us, zb_sn (by omega)]
    exact ⟨rfl, rfl, rfl⟩
  · intro s hs
    rw [zb_sn (by omega)]
    refine ⟨hI s hs, fun w hv hl => ?_⟩
    rw [hT2 s hs]
    exact ⟨fun h => ⟨hl, h⟩, fun h => h.2⟩
/-! one position, none -/
theorem zb_posI {C a : Nat} {em fi la fo : Nat → Int32} (hC : C < 12) (he : em a = 0) (hf : fi a = (1 : Int32) <<< (nI C &&& 31)) (hl : la a = (1 : Int32) <<< (nI C &&& 31)) (hg : ∀ q, q < 12 → fo (a * 12 + q) = 0) :
    xa_In C C em fi la fo a ∧ ∀ (le : Nat → Int32) w, xa_An em fi la fo le a w ↔ ∃ c, w = [c] ∧ xa_rd le C c := by
  have hF : ∀ p, xa_F fi a p ↔ p = C := by
    intro p
    unfold xa_F
    rw [hf, bi_sh1 (by omega), decide_eq_true_eq]
  have hL : ∀ p, xa_L la a p ↔ p = C := by
    intro p
    unfold xa_L
    rw [hl, bi_sh1 (by omega), decide_eq_true_eq]
  have hG : ∀ p q, ¬ xa_G fo a p q := by
    rintro p q ⟨h1, h2⟩
    rw [hg p h1, b_0] at h2
    exact absurd h2 (by decide)
  refine ⟨⟨Or.inl he, ?_, ?_, ?_⟩, fun le w => au_pos ?_ hF hL hG w⟩
  · intro p h
    rw [hF] at h
    exact ⟨by omega, by omega⟩
  · intro p q h
    exact absurd h (hG p q)
  · intro p h
    rw [hL] at h
    exact ⟨by omega, by omega⟩
  · rw [he]; decide
theorem zb_blaI {B C a : Nat} {em fi la fo : Nat → Int32} (he : em a = 1) (hf : fi a = 0) (hl : la a = 0) (hg : ∀ q, q < 12 → fo (a * 12 + q) = 0) :
    xa_In B C em fi la fo a ∧ ∀ (le : Nat → Int32) w, xa_An em fi la fo le a w ↔ w = [] := by
  have hF : ∀ p, ¬ xa_F fi a p := by
    intro p h
    unfold xa_F at h
    rw [hf, b_0] at h
    exact absurd h (by decide)
  have hL : ∀ p, ¬ xa_L la a p := by
    intro p h
    unfold xa_L at h
    rw [hl, b_0] at h
    exact absurd h (by decide)
  have hG : ∀ p q, ¬ xa_G fo a p q := by
    rintro p q ⟨h1, h2⟩
    rw [hg p h1, b_0] at h2
    exact absurd h2 (by decide)
  exact ⟨⟨Or.inr he, fun p h => absurd h (hF p), fun p q h => absurd h (hG p q), fun p h => absurd h (hL p)⟩, fun le w => au_blank he hF w⟩
theorem zb_cp1 : ∀ m, m < 8 → (nI m &&& 2 = 0 ↔ bt (nI m) 1 = false) := by decide +kernel
theorem zb_cp0 : ∀ m, m < 8 → 1 ≤ m → bt (nI m) 0 = false → bt (nI m) 1 = false → bt (nI m) 2 = true := by decide +kernel
theorem zb_cp2 {m : Nat} (hm : m < 8) (h1 : 1 ≤ m) : ∃ c0, c0 < 3 ∧ bt (nI m) c0 = true ∧ (∀ c, c < 3 → bt (nI m) c = true → c0 ≤ c) ∧
    ∀ Q : Int32 → Prop, Q (nI c0) → ((nI m &&& 1 = 0 → ((nI m &&& 2 = 0 → Q 2) ∧ (¬ nI m &&& 2 = 0 → Q 1))) ∧ (¬ nI m &&& 1 = 0 → Q 0)) := by
  cases b0 : bt (nI m) 0
  · have a := (bi_one (nI m)).mpr b0
    cases b1 : bt (nI m) 1
    · refine ⟨2, by omega, zb_cp0 m hm h1 b0 b1, fun c hc h => ?_, fun Q h => br_t a (br_t ((zb_cp1 m hm).mpr b1) h)⟩
      have : c = 0 ∨ c = 1 ∨ c = 2 := by omega
      rcases this with rfl | rfl | rfl
      · rw [b0] at h; exact absurd h (by decide)
      · rw [b1] at h; exact absurd h (by decide)
      · omega
    · refine ⟨1, by omega, b1, fun c hc h => ?_, fun Q h => br_t a (br_f (fun h => ?_) h)⟩
      · have : c = 0 ∨ c = 1 ∨ c = 2 := by omega
        rcases this with rfl | rfl | rfl
        · rw [b0] at h; exact absurd h (by decide)
        · omega
        · omega
      · rw [(zb_cp1 m hm).mp h] at b1
        exact absurd b1 (by decide)
  · refine ⟨0, by omega, b0, fun c' _ _ => by omega, fun Q h => br_f (fun h => ?_) h⟩
    rw [(bi_one (nI m)).mp h] at b0
    exact absurd b0 (by decide)
theorem zb_FXe {C s : Nat} {em fi la fo em' fi' la' fo' : Nat → Int32} {e f l : Int32} (hs : s < 2) (hC : C < 12) (h : zr_FX C em fi la fo em' fi' la' fo') : zr_FX C em fi la fo (upd em' (s * 12 + C) e) (upd fi' (s * 12 + C) f) (upd la' (s * 12 + C) l) fo' :=
  zr_FXt hs hC h ⟨fun j hj => ⟨nu_un hj, nu_un hj, nu_un hj⟩, fun _ _ => rfl⟩
theorem zb_leU {C : Nat} {le : Nat → Int32} {m : Nat} (h : xa_Le le) (hm : m < 8) : xa_Le (upd le C (nI m)) := by
  intro p hp
  by_cases e : p = C
  · rw [e, nu_us]
    exact ⟨m, hm, rfl⟩
  · rw [nu_un e]
    exact h p hp
theorem zb_leaf {N C : Nat} {kd : Nat → Int32} {sn : Nat → Nat} {T : Nat → Nat → List Nat → Prop} {ll lc ag : Nat → Int32} (hk : kd C = 0 ∨ kd C = 1) (hsn : sn C = C) (hg : kd C = 1 → ∃ c, c < 3 ∧ ag C = nI c)
    (hm : ∃ w, wo_V w ∧ 2 * w.length ≤ C - sn C + 2 ∧ ll C = nI w.length ∧ lc C = nI (wo_c4 w) ∧ T 0 C w ∧ ∀ v, T 0 C v → wo_cd w ≤ wo_cd v) : zr_P N kd sn T ll lc ag C := by
  have n2 : ¬ kd C = 2 := by rcases hk with hk | hk <;> rw [hk] <;> decide
  have n3 : ¬ kd C = 3 := by rcases hk with hk | hk <;> rw [hk] <;> decide
  have n4 : ¬ kd C = 4 := by rcases hk with hk | hk <;> rw [hk] <;> decide
  have n5 : ¬ kd C = 5 := by rcases hk with hk | hk <;> rw [hk] <;> decide
  exact ⟨Or.inl ⟨hk, hsn⟩, hg, fun h => absurd h n2, fun h => absurd h n3, fun h => absurd h n4, fun h => absurd h n5, hm⟩
theorem i_vc_copy {k : Nat} {u : SX} {v : SY} (I : i_Rel k u v) (hk : k + 3 ≤ 1538) (v1 : Int32) : wpX_copy (fun r u' => wpY_copy (fun r' v' => r' = r ∧ i_Rel (k + 3) u' v') v v1) u v1 := by
  refine zr_el (P := fun u v => wpX_copy (fun r u' => wpY_copy (fun r' v' => r' = r ∧ i_Rel (k + 3) u' v') v v1) u v1) ?_ I
  intro N M C xd xt kd ag st le ll lc em fi la fo pr fr wd sz ot tN tL tH tO tP yt yd yo tb yk ya bf yN yV yS R
  have hM := R.1
  by_cases h1 : v1 < 1
  · exact br_t h1 (br_t h1 ⟨rfl, zr_in rfl R⟩)
  · by_cases h7 : v1 ≤ 7
    · have h0 : ¬ v1 < 0 := fun h => h1 (Int32.lt_trans h (by decide))
      obtain ⟨m, hm, rfl⟩ := nI_of2 (M := 7) (n := 7) (by decide) h0 h7
      have hm1 : 1 ≤ m := by
        rcases Nat.lt_or_ge m 1 with h | h
        · exact absurd (nI_lt (b := 1) h (by omega)) h1
        · exact h
      rcases Nat.lt_or_ge C M with hC | hC
      · obtain ⟨c0, hc0, hb0, hmin, hQ⟩ := zb_cp2 (by omega : m < 8) hm1
        refine br_f h1 (br_t h7 (br_t (nI_lt hC (by omega)) (hQ (fun z => wX_copy_47 _ (nI m) z (nI N) (nI M) (nI C) (nI (ys_dp kd C)) xd xt kd ag st le ll lc em fi la fo pr fr wd sz ot tN tL tH tO tP) ?_)))
        have hC12 : C < 12 := by omega
        unfold wX_copy_47
        refine xs_setLeast hC12 _ _ ?_
        refine xs_blank (s := 0) (by omega) hC12 fun fo1 f1 g1 => ?_
        refine xs_blank (s := 1) (by omega) hC12 fun fo2 f2 g2 => ?_
        refine xs_mk (s := 0) (by omega) hC12 ?_
        refine xs_mk (s := 1) (by omega) hC12 ?_
        refine ⟨xs_in hC12 (by omega), ?_⟩
        rw [xs_cl (by omega : C < 4096)]
        refine nm_e (nm_r (nI_1 _) (xs_commit hC12 _ _ _ ?_))
        refine br_f h1 (br_t h7 (br_t (nI_lt hC (by omega)) ?_))
        have X : zr_FX C em fi la fo (upd (upd (upd (upd em (0 * 12 + C) 1) (1 * 12 + C) 1) (0 * 12 + C) 0) (1 * 12 + C) 0)
            (upd (upd (upd (upd fi (0 * 12 + C) 0) (1 * 12 + C) 0) (0 * 12 + C) ((1 : Int32) <<< (nI C &&& 31))) (1 * 12 + C) ((1 : Int32) <<< (nI C &&& 31)))
            (upd (upd (upd (upd la (0 * 12 + C) 0) (1 * 12 + C) 0) (0 * 12 + C) ((1 : Int32) <<< (nI C &&& 31))) (1 * 12 + C) ((1 : Int32) <<< (nI C &&& 31))) fo2 := by
          have a1 : zr_FX C em fi la fo (upd em (0 * 12 + C) 1) (upd fi (0 * 12 + C) 0) (upd la (0 * 12 + C) 0) fo1 :=
            zr_FXt (s := 0) (by omega) hC12 zr_FXr ⟨fun j hj => ⟨nu_un hj, nu_un hj, nu_un hj⟩, f1⟩
          have a2 := zr_FXt (s := 1) (em2 := upd (upd em (0 * 12 + C) 1) (1 * 12 + C) 1) (fi2 := upd (upd fi (0 * 12 + C) 0) (1 * 12 + C) 0) (la2 := upd (upd la (0 * 12 + C) 0) (1 * 12 + C) 0) (fo2 := fo2) (by omega) hC12 a1 ⟨fun j hj => ⟨nu_un hj, nu_un hj, nu_un hj⟩, f2⟩
          exact zb_FXe (s := 1) (by omega) hC12 (zb_FXe (s := 0) (by omega) hC12 a2)
        have S : ∀ s, s < 2 → (upd (upd (upd (upd em (0 * 12 + C) 1) (1 * 12 + C) 1) (0 * 12 + C) 0) (1 * 12 + C) 0) (s * 12 + C) = 0 ∧
            (upd (upd (upd (upd fi (0 * 12 + C) 0) (1 * 12 + C) 0) (0 * 12 + C) ((1 : Int32) <<< (nI C &&& 31))) (1 * 12 + C) ((1 : Int32) <<< (nI C &&& 31))) (s * 12 + C) = ((1 : Int32) <<< (nI C &&& 31)) ∧
            (upd (upd (upd (upd la (0 * 12 + C) 0) (1 * 12 + C) 0) (0 * 12 + C) ((1 : Int32) <<< (nI C &&& 31))) (1 * 12 + C) ((1 : Int32) <<< (nI C &&& 31))) (s * 12 + C) = ((1 : Int32) <<< (nI C &&& 31)) ∧
            ∀ q, q < 12 → fo2 ((s * 12 + C) * 12 + q) = 0 := by
          intro s hs
          have : s = 0 ∨ s = 1 := by omega
          rcases this with rfl | rfl
          · refine ⟨by rw [nu_un (by omega), nu_us], by rw [nu_un (by omega), nu_us], by rw [nu_un (by omega), nu_us], fun q hq => ?_⟩
            rw [f2 _ (by omega), g1 q hq]
          · exact ⟨nu_us, nu_us, nu_us, g2⟩
        have S2 := fun s hs => zb_posI hC12 (S s hs).1 (S s hs).2.1 (S s hs).2.2.1 (S s hs).2.2.2
        have rd : ∀ c, xa_rd (upd le C (nI m)) C c ↔ c < 3 ∧ bt (nI m) c = true := by
          intro c
          unfold xa_rd
          rw [nu_us]
        refine zb_fin (k := k + 3) R hC (Nat.le_refl C) X (fun j hj => nu_un (by omega)) (zb_leU R.2.1 (by omega)) (fun j hj => nu_un (by omega)) (fun j hj => nu_un (by omega)) (fun s hs => (S2 s hs).1) (by rw [zb_dp0 (Or.inl rfl)]) ?_ ?_ rfl
        · intro tb' hag h01 s w hs hv hl _ rost H
          have key : (∃ c, w = [c] ∧ bt ((upd ya C (nI m)) C) c = true) ↔ ∃ c, w = [c] ∧ xa_rd (upd le C (nI m)) C c := by
            rw [nu_us]
            constructor
            · rintro ⟨c, rfl, h⟩
              exact ⟨c, rfl, (rd c).mpr ⟨(wo_Vc.mp hv).1, h⟩⟩
            · rintro ⟨c, rfl, h⟩
              exact ⟨c, rfl, ((rd c).mp h).2⟩
          refine yb_k0 hs hC12 hv hl (zb_ySt R 0) nu_us ?_ ?_
          · intro h
            refine H 1 (Or.inr rfl) fun _ => ⟨fun _ => ((S2 s hs).2 _ w).mpr (key.mp h), fun _ => rfl⟩
          · intro h
            refine H 0 (Or.inl rfl) fun _ => ⟨fun h' => absurd h' (by decide), fun h' => absurd (key.mpr (((S2 s hs).2 _ w).mp h')) h⟩
        · intro tb2 hag hT
          refine zb_leaf (Or.inl nu_us) (zb_sn (by omega)) (fun h => by rw [nu_us] at h; exact absurd h (by decide)) ⟨[c0], wo_Vc.mpr ⟨hc0, wo_V0⟩, by rw [zb_sn (by omega)]; simp, by rw [nu_us]; rfl, by rw [nu_us]; simp [wo_c4], ?_, ?_⟩
          · rw [hT 0 (by omega), (S2 0 (by omega)).2]
            exact ⟨by simp, c0, rfl, (rd c0).mpr ⟨hc0, hb0⟩⟩
          · intro v hv
            rw [hT 0 (by omega), (S2 0 (by omega)).2] at hv
            obtain ⟨_, c, rfl, h⟩ := hv
            have h := (rd c).mp h
            have := hmin c h.1 h.2
            simp [wo_cd]
            omega
      · have h := nI_nlt (a := C) (b := M) hC (by omega)
        exact br_f h1 (br_t h7 (br_f h (br_f h1 (br_t h7 (br_f h ⟨rfl, zr_in rfl R⟩)))))
    · exact br_f h1 (br_f h7 (br_f h1 (br_f h7 ⟨rfl, zr_in rfl R⟩)))
theorem i_vc_insert {k : Nat} {u : SX} {v : SY} (I : i_Rel k u v) (hk : k + 3 ≤ 1538) (v1 : Int32) : wpX_insert (fun r u' => wpY_insert (fun r' v' => r' = r ∧ i_Rel (k + 3) u' v') v v1) u v1 := by
  refine zr_el (P := fun u v => wpX_insert (fun r u' => wpY_insert (fun r' v' => r' = r ∧ i_Rel (k + 3) u' v') v v1) u v1) ?_ I
  intro N M C xd xt kd ag st le ll lc em fi la fo pr fr wd sz ot tN tL tH tO tP yt yd yo tb yk ya bf yN yV yS R
  have hM := R.1
  rcases ze_let v1 with h | ⟨h, h'⟩ | ⟨d, hd, rfl⟩
  · exact br_t h (br_t h ⟨rfl, zr_in rfl R⟩)
  · exact br_f h (br_f h' (br_f h (br_f h' ⟨rfl, zr_in rfl R⟩)))
  · have h := nI_pos (n := d) (by omega)
    have h' := ze_le2 hd
    rcases Nat.lt_or_ge C M with hC | hC
    · have hC12 : C < 12 := by omega
      refine br_f h (br_t h' (br_t (nI_lt hC (by omega)) ?_))
      refine xs_setLeast hC12 _ _ ?_
      refine xs_blank (s := 0) (by omega) hC12 fun fo1 f1 g1 => ?_
      refine xs_blank (s := 1) (by omega) hC12 fun fo2 f2 g2 => ?_
      refine xs_mk (s := 1) (by omega) hC12 ?_
      obtain ⟨m, hm, em8⟩ := bi_8s d hd
      dsimp only
      refine ⟨xs_in hC12 (by omega), ?_⟩
      rw [xs_cl (by omega : C < 4096), em8]
      refine nm_e (nm_r (nI_1 _) (xs_commit hC12 _ _ _ ?_))
      refine br_f h (br_t h' (br_t (nI_lt hC (by omega)) ?_))
      have X : zr_FX C em fi la fo (upd (upd (upd em (0 * 12 + C) 1) (1 * 12 + C) 1) (1 * 12 + C) 0)
          (upd (upd (upd fi (0 * 12 + C) 0) (1 * 12 + C) 0) (1 * 12 + C) ((1 : Int32) <<< (nI C &&& 31)))
          (upd (upd (upd la (0 * 12 + C) 0) (1 * 12 + C) 0) (1 * 12 + C) ((1 : Int32) <<< (nI C &&& 31))) fo2 := by
        have a1 : zr_FX C em fi la fo (upd em (0 * 12 + C) 1) (upd fi (0 * 12 + C) 0) (upd la (0 * 12 + C) 0) fo1 :=
          zr_FXt (s := 0) (by omega) hC12 zr_FXr ⟨fun j hj => ⟨nu_un hj, nu_un hj, nu_un hj⟩, f1⟩
        have a2 := zr_FXt (s := 1) (em2 := upd (upd em (0 * 12 + C) 1) (1 * 12 + C) 1) (fi2 := upd (upd fi (0 * 12 + C) 0) (1 * 12 + C) 0) (la2 := upd (upd la (0 * 12 + C) 0) (1 * 12 + C) 0) (fo2 := fo2) (by omega) hC12 a1 ⟨fun j hj => ⟨nu_un hj, nu_un hj, nu_un hj⟩, f2⟩
        exact zb_FXe (s := 1) (by omega) hC12 a2
      have S0 := zb_blaI (B := C) (C := C) (a := 0 * 12 + C) (em := upd (upd (upd em (0 * 12 + C) 1) (1 * 12 + C) 1) (1 * 12 + C) 0)
        (fi := upd (upd (upd fi (0 * 12 + C) 0) (1 * 12 + C) 0) (1 * 12 + C) ((1 : Int32) <<< (nI C &&& 31)))
        (la := upd (upd (upd la (0 * 12 + C) 0) (1 * 12 + C) 0) (1 * 12 + C) ((1 : Int32) <<< (nI C &&& 31))) (fo := fo2)
        (by rw [nu_un (by omega), nu_un (by omega), nu_us]) (by rw [nu_un (by omega), nu_un (by omega), nu_us]) (by rw [nu_un (by omega), nu_un (by omega), nu_us]) (fun q hq => by rw [f2 _ (by omega), g1 q hq])
      have S1 := zb_posI (C := C) (a := 1 * 12 + C) (em := upd (upd (upd em (0 * 12 + C) 1) (1 * 12 + C) 1) (1 * 12 + C) 0)
        (fi := upd (upd (upd fi (0 * 12 + C) 0) (1 * 12 + C) 0) (1 * 12 + C) ((1 : Int32) <<< (nI C &&& 31)))
        (la := upd (upd (upd la (0 * 12 + C) 0) (1 * 12 + C) 0) (1 * 12 + C) ((1 : Int32) <<< (nI C &&& 31))) (fo := fo2) hC12 nu_us nu_us nu_us g2
      have rd : ∀ c, xa_rd (upd le C (nI m)) C c ↔ c = d := by
        intro c
        unfold xa_rd
        rw [nu_us, ← em8, bi_sh1 (by omega), decide_eq_true_eq]
        exact ⟨fun h => h.2, fun h => ⟨by omega, h⟩⟩
      refine zb_fin (k := k + 3) R hC (Nat.le_refl C) X (fun j hj => nu_un (by omega)) (zb_leU R.2.1 (by omega)) (fun j hj => nu_un (by omega)) (fun j hj => nu_un (by omega)) ?_ (by rw [zb_dp0 (Or.inr rfl)]) ?_ ?_ rfl
      · intro s hs
        have : s = 0 ∨ s = 1 := by omega
        rcases this with rfl | rfl
        · exact S0.1
        · exact S1.1
      · intro tb' hag h01 s w hs hv hl _ rost H
        have key : ((s = 0 ∧ w = []) ∨ (s = 1 ∧ w = [d])) ↔ xa_An (upd (upd (upd em (0 * 12 + C) 1) (1 * 12 + C) 1) (1 * 12 + C) 0)
            (upd (upd (upd fi (0 * 12 + C) 0) (1 * 12 + C) 0) (1 * 12 + C) ((1 : Int32) <<< (nI C &&& 31)))
            (upd (upd (upd la (0 * 12 + C) 0) (1 * 12 + C) 0) (1 * 12 + C) ((1 : Int32) <<< (nI C &&& 31))) fo2 (upd le C (nI m)) (s * 12 + C) w := by
          have : s = 0 ∨ s = 1 := by omega
          rcases this with rfl | rfl
          · rw [S0.2]
            simp
          · rw [S1.2]
            simp only [rd]
            simp
        refine yb_k1 hs hC12 hv hl (zb_ySt R 1) nu_us hd nu_us ?_ ?_
        · intro h
          exact H 1 (Or.inr rfl) fun _ => ⟨fun _ => key.mp h, fun _ => rfl⟩
        · intro h
          exact H 0 (Or.inl rfl) fun _ => ⟨fun h' => absurd h' (by decide), fun h' => absurd (key.mpr h') h⟩
      · intro tb2 hag hT
        refine zb_leaf (Or.inr nu_us) (zb_sn (by omega)) (fun _ => ⟨d, hd, nu_us⟩) ⟨[], wo_V0, by simp, by rw [nu_us]; rfl, by rw [nu_us]; rfl, ?_, ?_⟩
        · rw [hT 0 (by omega), S0.2]
          simp
        · intro v _
          simp [wo_cd]
    · have h2 := nI_nlt (a := C) (b := M) hC (by omega)
      exact br_f h (br_t h' (br_f h2 (br_f h (br_t h' (br_f h2 ⟨rfl, zr_in rfl R⟩)))))
theorem zb_una {N C : Nat} {kd : Nat → Int32} {sn : Nat → Nat} {T : Nat → Nat → List Nat → Prop} {ll lc ag : Nat → Int32} (hk : kd C = 2) (h1 : 1 ≤ C) (hsn : sn C = sn (C - 1)) (hT : ∀ w, T 0 C w ↔ T 0 (C - 1) w)
    (hm : ∃ w, wo_V w ∧ 2 * w.length ≤ C - sn C + 2 ∧ ll C = nI w.length ∧ lc C = nI (wo_c4 w) ∧ T 0 C w ∧ ∀ v, T 0 C v → wo_cd w ≤ wo_cd v) : zr_P N kd sn T ll lc ag C := by
  exact ⟨Or.inr (Or.inl ⟨Or.inl hk, h1, hsn⟩), fun h => absurd (hk.symm.trans h) (by decide), fun _ => hT, fun h => absurd (hk.symm.trans h) (by decide), fun h => absurd (hk.symm.trans h) (by decide), fun h => absurd (hk.symm.trans h) (by decide), hm⟩
theorem i_vc_erase {k : Nat} {u : SX} {v : SY} (I : i_Rel k u v) (hk : k + 3 ≤ 1538) : wpX_erase (fun r u' => wpY_erase (fun r' v' => r' = r ∧ i_Rel (k + 3) u' v') v) u := by
  refine zr_el (P := fun u v => wpX_erase (fun r u' => wpY_erase (fun r' v' => r' = r ∧ i_Rel (k + 3) u' v') v) u) ?_ I
  intro N M C xd xt kd ag st le ll lc em fi la fo pr fr wd sz ot tN tL tH tO tP yt yd yo tb yk ya bf yN yV yS R
  have hM := R.1
  have dl := ys_dpl (kd := kd) C
  rcases ze_len R with ⟨h0, d0⟩ | ⟨h1, d1⟩
  · have : ¬ (1 : Int32) ≤ nI (ys_dp kd C) := nI_ge (b := 1) (by omega) (by omega)
    exact br_f this (br_t (by rw [h0]; rfl) ⟨rfl, zr_in rfl R⟩)
  · rcases Nat.lt_or_ge C M with hC | hC
    · have hC12 : C < 12 := by omega
      refine br_t (nI_le (a := 1) d1 (by omega)) (br_t (nI_lt hC (by omega)) (nm_r (nu_s1 h1) ?_))
      have iv : vp_in (nI (C - 1)) 12 := xs_in (by omega) (by omega)
      have hst := (R.2.2.2.2.2.1 (C - 1) (by omega)).2.2
      have hs1 := (zr_sle R).2 (C - 1) (by omega)
      have hA := R.2.2.2.2.2.2.2 (C - 1) (by omega)
      have ia := (hA 0 (by omega)).1
      refine ⟨iv, iv, ?_⟩
      rw [xs_cl (by omega : C - 1 < 4096)]
      refine xs_setLeast hC12 _ _ ?_
      refine xs_merge (s := 0) (a := C - 1) (b := C - 1) (by omega) hC12 (by omega) (by omega) ia.1 ia.1 fun fo1 e he he1 f1 g1 => ?_
      refine xs_blank (s := 1) (by omega) hC12 fun fo2 f2 g2 => ⟨iv, ?_⟩
      rw [hst]
      refine xs_commit hC12 _ _ _ ?_
      refine br_f (nI_ne0 (by omega) (by omega)) (br_t (nI_lt hC (by omega)) ?_)
      rw [or_self] at he1
      have X : zr_FX C em fi la fo (upd (upd em (0 * 12 + C) e) (1 * 12 + C) 1)
          (upd (upd fi (0 * 12 + C) (fi (0 * 12 + (C - 1)) ||| fi (0 * 12 + (C - 1)))) (1 * 12 + C) 0)
          (upd (upd la (0 * 12 + C) (la (0 * 12 + (C - 1)) ||| la (0 * 12 + (C - 1)))) (1 * 12 + C) 0) fo2 := by
        have a1 : zr_FX C em fi la fo (upd em (0 * 12 + C) e) (upd fi (0 * 12 + C) (fi (0 * 12 + (C - 1)) ||| fi (0 * 12 + (C - 1)))) (upd la (0 * 12 + C) (la (0 * 12 + (C - 1)) ||| la (0 * 12 + (C - 1)))) fo1 :=
          zr_FXt (s := 0) (by omega) hC12 zr_FXr ⟨fun j hj => ⟨nu_un hj, nu_un hj, nu_un hj⟩, f1⟩
        exact zr_FXt (s := 1) (by omega) hC12 a1 ⟨fun j hj => ⟨nu_un hj, nu_un hj, nu_un hj⟩, f2⟩
      have S0 : xa_In (zr_sn st (C - 1)) C (upd (upd em (0 * 12 + C) e) (1 * 12 + C) 1)
          (upd (upd fi (0 * 12 + C) (fi (0 * 12 + (C - 1)) ||| fi (0 * 12 + (C - 1)))) (1 * 12 + C) 0)
          (upd (upd la (0 * 12 + C) (la (0 * 12 + (C - 1)) ||| la (0 * 12 + (C - 1)))) (1 * 12 + C) 0) fo2 (0 * 12 + C) ∧
          ∀ w, xa_An (upd (upd em (0 * 12 + C) e) (1 * 12 + C) 1)
          (upd (upd fi (0 * 12 + C) (fi (0 * 12 + (C - 1)) ||| fi (0 * 12 + (C - 1)))) (1 * 12 + C) 0)
          (upd (upd la (0 * 12 + C) (la (0 * 12 + (C - 1)) ||| la (0 * 12 + (C - 1)))) (1 * 12 + C) 0) fo2 le (0 * 12 + C) w ↔ xa_An em fi la fo le (0 * 12 + (C - 1)) w := by
        have eE : (upd (upd em (0 * 12 + C) e) (1 * 12 + C) 1) (0 * 12 + C) = e := by rw [nu_un (by omega), nu_us]
        have eF : xa_F (upd (upd fi (0 * 12 + C) (fi (0 * 12 + (C - 1)) ||| fi (0 * 12 + (C - 1)))) (1 * 12 + C) 0) (0 * 12 + C) = xa_F fi (0 * 12 + (C - 1)) := by
          funext p
          unfold xa_F
          rw [nu_un (by omega), nu_us, b_or, Bool.or_self]
        have eL : xa_L (upd (upd la (0 * 12 + C) (la (0 * 12 + (C - 1)) ||| la (0 * 12 + (C - 1)))) (1 * 12 + C) 0) (0 * 12 + C) = xa_L la (0 * 12 + (C - 1)) := by
          funext p
          unfold xa_L
          rw [nu_un (by omega), nu_us, b_or, Bool.or_self]
        have eG : xa_G fo2 (0 * 12 + C) = xa_G fo (0 * 12 + (C - 1)) := by
          funext p q
          unfold xa_G
          apply propext
          refine and_congr_right fun hp => ?_
          rw [f2 _ (by omega), g1 p hp, b_or, Bool.or_self]
        have eE1 : (e = 1) = (em (0 * 12 + (C - 1)) = 1) := propext he1
        constructor
        · unfold xa_In
          rw [eE, eF, eL, eG]
          refine ⟨he, fun p h => ?_, fun p q h => ?_, fun p h => ?_⟩
          · have := ia.2.1 p h
            exact ⟨this.1, by have := this.2; omega⟩
          · have := ia.2.2.1 p q h
            exact ⟨⟨this.1.1, by have := this.1.2; omega⟩, this.2.1, by have := this.2.2; omega⟩
          · have := ia.2.2.2 p h
            exact ⟨this.1, by have := this.2; omega⟩
        · intro w
          unfold xa_An
          rw [eE, eF, eL, eG, eE1]
      have S1 := zb_blaI (B := zr_sn st (C - 1)) (C := C) (a := 1 * 12 + C) (em := upd (upd em (0 * 12 + C) e) (1 * 12 + C) 1)
        (fi := upd (upd fi (0 * 12 + C) (fi (0 * 12 + (C - 1)) ||| fi (0 * 12 + (C - 1)))) (1 * 12 + C) 0)
        (la := upd (upd la (0 * 12 + C) (la (0 * 12 + (C - 1)) ||| la (0 * 12 + (C - 1)))) (1 * 12 + C) 0) (fo := fo2) nu_us nu_us nu_us g2
      refine zb_fin (k := k + 3) (B := zr_sn st (C - 1)) R hC (by omega) X (fun j hj => rfl) R.2.1 (fun j hj => nu_un (by omega)) (fun j hj => nu_un (by omega)) ?_ (by rw [zb_dp2 (Or.inl rfl)]) ?_ ?_ rfl
      · intro s hs
        have : s = 0 ∨ s = 1 := by omega
        rcases this with rfl | rfl
        · exact S0.1
        · exact S1.1
      · intro tb' hag h01 s w hs hv hl _ rost H
        have key : ((s = 0 ∧ ys_T tb' 0 (C - 1) w) ∨ (s = 1 ∧ w = [])) ↔ xa_An (upd (upd em (0 * 12 + C) e) (1 * 12 + C) 1)
            (upd (upd fi (0 * 12 + C) (fi (0 * 12 + (C - 1)) ||| fi (0 * 12 + (C - 1)))) (1 * 12 + C) 0)
            (upd (upd la (0 * 12 + C) (la (0 * 12 + (C - 1)) ||| la (0 * 12 + (C - 1)))) (1 * 12 + C) 0) fo2 le (s * 12 + C) w := by
          have : s = 0 ∨ s = 1 := by omega
          rcases this with rfl | rfl
          · rw [S0.2, ← zb_TL R hag (s := 0) (by omega) (by omega) hv hl]
            simp
          · rw [S1.2]
            simp
        refine yb_k2 h01 hs hC12 h1 hv hl (zb_ySt R 2) nu_us ?_ ?_
        · intro h
          exact H 1 (Or.inr rfl) fun _ => ⟨fun _ => key.mp h, fun _ => rfl⟩
        · intro h
          exact H 0 (Or.inl rfl) fun _ => ⟨fun h' => absurd h' (by decide), fun h' => absurd (key.mpr h') h⟩
      · intro tb2 hag hT
        have e0 : ∀ w, zr_T tb2 0 C w ↔ zr_T tb2 0 (C - 1) w := by
          intro w
          rw [hT 0 (by omega), S0.2]
          constructor
          · rintro ⟨hl, h⟩
            exact (zb_TA R hag (s := 0) (by omega) (by omega) hl).mpr h
          · intro h
            exact ⟨h.2.1, (zb_TA R hag (s := 0) (by omega) (by omega) h.2.1).mp h⟩
        obtain ⟨w, w1, w2, w3, w4, w5, w6⟩ := (R.2.2.2.2.2.2.1 (C - 1) (by omega)).2.2.2.2.2.2
        have eT : zr_T tb2 0 (C - 1) = zr_T tb 0 (C - 1) := zr_TF hag (by omega) (by omega) (by omega)
        refine zb_una nu_us h1 (by rw [zb_sn (by omega), zb_snj (by omega)]) e0 ⟨w, w1, by rw [zb_sn (by omega)]; omega, by rw [nu_us]; exact w3, by rw [nu_us]; exact w4, ?_, ?_⟩
        · rw [e0, eT]
          exact w5
        · intro v hv
          rw [e0, eT] at hv
          exact w6 v hv
    · have h2 := nI_nlt (a := C) (b := M) hC (by omega)
      exact br_t (nI_le (a := 1) d1 (by omega)) (br_f h2 (br_f (nI_ne0 (by omega) (by omega)) (br_f h2 ⟨rfl, zr_in rfl R⟩)))
end ZB
end
section
section ZC
/-! shifts of two-bit codes (the first six rows are of kit/rows/PURE-ROWS) -/
theorem pk_tn {n : Nat} (h : n < 2 ^ 32) : (nI n).toBitVec.toNat = n := Nat.mod_eq_of_lt h
theorem pk_andN {n : Nat} (h : n < 2 ^ 32) {m : Int32} (k : Nat) (hm : m.toBitVec.toNat = 2 ^ k - 1) : nI n &&& m = nI (n % 2 ^ k) := by
  apply Int32.toBitVec_inj.mp
  apply BitVec.eq_of_toNat_eq
  rw [Int32.toBitVec_and, BitVec.toNat_and, hm, Nat.and_two_pow_sub_one_eq_mod, pk_tn h]
  exact (pk_tn (Nat.lt_of_le_of_lt (Nat.mod_le _ _) h)).symm
theorem pk_shl (a s : Int32) (k : Nat) (hs : (s.toBitVec.smod 32).toNat = k) : (a <<< s).toBitVec.toNat = a.toBitVec.toNat * 2 ^ k % 2 ^ 32 := by
  show (a.toBitVec <<< (s.toBitVec.smod 32).toNat).toNat = _
  rw [hs, BitVec.toNat_shiftLeft, Nat.shiftLeft_eq]
theorem pk_shlN {n : Nat} (s : Int32) (k : Nat) (hs : (s.toBitVec.smod 32).toNat = k) (h : n * 2 ^ k < 2 ^ 32) : nI n <<< s = nI (n * 2 ^ k) := by
  apply Int32.toBitVec_inj.mp
  apply BitVec.eq_of_toNat_eq
  have hn : n < 2 ^ 32 := Nat.lt_of_le_of_lt (Nat.le_mul_of_pos_right n (Nat.two_pow_pos k)) h
  rw [pk_shl _ _ k hs, pk_tn hn, pk_tn h, Nat.mod_eq_of_lt h]
theorem pk_shr (a s : Int32) (k : Nat) (hs : (s.toBitVec.smod 32).toNat = k) : (a >>> s).toInt = a.toInt >>> k := by
  show (a.toBitVec.sshiftRight (s.toBitVec.smod 32).toNat).toInt = _
  rw [hs, BitVec.toInt_sshiftRight]
  rfl
theorem pk_shrN {n : Nat} (h : n < 2 ^ 31) (s : Int32) (k : Nat) (hs : (s.toBitVec.smod 32).toNat = k) : nI n >>> s = nI (n / 2 ^ k) := by
  apply Int32.toInt_inj.mp
  have h2 : n / 2 ^ k ≤ n := Nat.div_le_self _ _
  rw [pk_shr _ _ k hs, nI_toInt h, nI_toInt (by omega), Int.shiftRight_eq_div_pow]
  rfl
theorem zc_or (a b : Nat) : nI a ||| nI b = nI (a ||| b) := by
  apply Int32.toBitVec_inj.1
  show BitVec.ofNat 32 a ||| BitVec.ofNat 32 b = BitVec.ofNat 32 (a ||| b)
  apply BitVec.eq_of_getLsbD_eq
  intro i hi
  simp [hi]
theorem zc_4 (n : Nat) : 2 ^ (2 * n) = 4 ^ n := by rw [Nat.pow_mul]
theorem zc_46 {n : Nat} (h : n ≤ 6) : 4 ^ n ≤ 4096 := by
  have : 4 ^ n ≤ 4 ^ 6 := Nat.pow_le_pow_right (by omega) h
  exact this
theorem zc_code {x y : List Nat} (hx : wo_V x) (hy : wo_V y) (hl : x.length + y.length ≤ 6) : (nI (wo_c4 x) <<< ((2 * nI y.length) &&& 31)) ||| nI (wo_c4 y) = nI (wo_c4 (x ++ y)) := by
  have h1 := wo_4lt hx
  have h2 := wo_4lt hy
  have h3 := zc_46 (by omega : x.length ≤ 6)
  have h4 := zc_46 (by omega : y.length ≤ 6)
  have h5 : wo_c4 x * 4 ^ y.length ≤ 4096 * 4096 := Nat.mul_le_mul (by omega) h4
  rw [nu_2m, pk_shlN _ (2 * y.length) (s_l _ (by omega)) (by rw [zc_4]; omega), zc_4, zc_or, wo_4app]
  congr 1
  rw [← zc_4, Nat.mul_comm, ← Nat.two_pow_add_eq_or_of_lt (by rw [zc_4]; exact h2)]
theorem zc_min {p q x y : List Nat} (hp : wo_V p) (hq : wo_V q) (hx : wo_V x) (hy : wo_V y) (h1 : wo_cd p ≤ wo_cd x) (h2 : wo_cd q ≤ wo_cd y) : wo_cd (p ++ q) ≤ wo_cd (x ++ y) := by
  have l1 := wo_lelen hx h1
  have l2 := wo_lelen hy h2
  rcases Nat.lt_or_ge q.length y.length with h | h
  · exact Nat.le_of_lt (wo_ltlen (wo_Va.mpr ⟨hp, hq⟩) (by rw [List.length_append, List.length_append]; omega))
  · have e : q.length = y.length := by omega
    rw [wo_app, wo_app, e]
    exact Nat.add_le_add (Nat.mul_le_mul_right _ h1) h2
theorem zc_amE {P Q P' Q' : List Nat → Prop} {N : Nat} (hN : N ≤ 6) (vP : ∀ w, P w → wo_V w) (vQ : ∀ w, Q w → wo_V w) (hP : ∀ v, wo_V v → v.length ≤ 6 → (P v ↔ P' v)) (hQ : ∀ v, wo_V v → v.length ≤ 6 → (Q v ↔ Q' v)) :
    (∃ w, w.length ≤ N ∧ wo_Am P Q w) ↔ ∃ w, wo_V w ∧ w.length ≤ N ∧ wo_Am P' Q' w := by
  constructor
  · rintro ⟨w, hl, h⟩
    have hv : wo_V w := by
      obtain ⟨k, l, _, _, ⟨h1, h2⟩, _⟩ := h
      have := wo_Va.mpr ⟨vP _ h1, vQ _ h2⟩
      rw [List.take_append_drop] at this
      exact this
    exact ⟨w, hv, hl, (wo_AmC hv (by omega) hP hQ).mp h⟩
  · rintro ⟨w, hv, hl, h⟩
    exact ⟨w, hl, (wo_AmC hv (by omega) hP hQ).mpr h⟩
theorem zc_amb {N s a b : Nat} {yz ym yw yc yt yd yo : Int32} {tb yk ya bf yN yV yS : Nat → Int32} (h01 : ys_01 tb) (hs : s < 2) (ha : a < 12) (hb : b < 12) (hN : N ≤ 6) {P Q : List Nat → Prop} (vP : ∀ w, P w → wo_V w) (vQ : ∀ w, Q w → wo_V w) (hP : ∀ v, wo_V v → v.length ≤ 6 → (P v ↔ ys_T tb s a v)) (hQ : ∀ v, wo_V v → v.length ≤ 6 → (Q v ↔ ys_T tb s b v))
    {v : Int32} (hv : xw_Out v (∃ w, w.length ≤ N ∧ wo_Am P Q w)) {rost : Int32 → Prop} (H : rost v) : wpY_ambiguous rost (yz, ym, nI (wo_ws N), yc, yt, yd, yo, tb, yk, ya, bf, yN, yV, yS) (nI s) (nI a) (nI b) := by
  have key := zc_amE hN vP vQ hP hQ
  refine yw_amb h01 hs ha hb hN ?_ ?_
  · intro h
    rcases hv with ⟨e, _⟩ | ⟨_, h'⟩
    · rw [← e]; exact H
    · exact absurd (key.mpr h) h'
  · intro h
    rcases hv with ⟨_, h'⟩ | ⟨e, _⟩
    · exact absurd (key.mp h') h
    · rw [← e]; exact H
theorem zc_out {v : Int32} {P : Prop} (h : xw_Out v P) : (v = 0 ∧ ¬ P) ∨ (¬ v = 0 ∧ v = 1 ∧ P) := by
  rcases h with ⟨e, p⟩ | ⟨e, p⟩
  · exact Or.inr ⟨by rw [e]; decide, e, p⟩
  · exact Or.inl ⟨e, p⟩
/-- Y's walk to the first test -/
theorem zc_Y {N M C : Nat} {kd ag st le ll lc em fi la fo wd sz tb yk ya bf : Nat → Int32} (R : zr_Rel N M C kd ag st le ll lc em fi la fo wd sz tb yk ya bf) (hC : C < M) (h2 : 2 ≤ ys_dp kd C) {yt yd yo : Int32} {yN yV yS : Nat → Int32} {A : Int32 → Int32 → Prop}
    {P : Prop} {Q : Prop} (H : A (nI (C - 1)) (nI (zr_sn st (C - 1) - 1))) :
    wpY_depth (fun r => ((2 ≤ r → ((nI C < nI M → (∀ x1 : Int32, x1 = nI C - 1 → wpY_start (fun r' => (∀ x2 : Int32, x2 = r' - 1 → A x1 x2)) (nI N, nI M, nI (wo_ws N), nI C, yt, yd, yo, tb, yk, ya, bf, yN, yV, yS) x1)) ∧ (¬ nI C < nI M → P))) ∧ (¬ 2 ≤ r → Q))) (nI N, nI M, nI (wo_ws N), nI C, yt, yd, yo, tb, yk, ya, bf, yN, yV, yS) := by
  have hy := zr_ySt R
  have hM := R.1
  have dl := ys_dpl (kd := kd) C
  have ⟨c1, c2, c3⟩ := ys_two (zr_sle R).1 h2
  refine ys_depth (by omega) hy.1 ?_
  rw [hy.2]
  refine br_t (nI_le (a := 2) h2 (by omega)) (br_t (nI_lt hC (by omega)) (nm_r (nu_s1 c1) ?_))
  exact ys_start (by omega) (fun j hj => hy.1 j (by omega)) (nm_r (nu_s1 c2) H)
theorem i_vc_concat {k : Nat} {u : SX} {v : SY} (I : i_Rel k u v) (hk : k + 3 ≤ 1538) : wpX_concat (fun r u' => wpY_concat (fun r' v' => r' = r ∧ i_Rel (k + 3) u' v') v) u := by
  refine zr_el (P := fun u v => wpX_concat (fun r u' => wpY_concat (fun r' v' => r' = r ∧ i_Rel (k + 3) u' v') v) u) ?_ I
  intro N M C xd xt kd ag st le ll lc em fi la fo pr fr wd sz ot tN tL tH tO tP yt yd yo tb yk ya bf yN yV yS R
  have hM := R.1
  have hy := zr_ySt R
  have dl := ys_dpl (kd := kd) C
  rcases Nat.lt_or_ge (ys_dp kd C) 2 with h2 | h2
  · refine br_f (nI_ge (b := 2) h2 (by omega)) ?_
    refine ys_depth (by omega) hy.1 ?_
    rw [hy.2]
    exact br_f (nI_ge (b := 2) h2 (by omega)) ⟨rfl, zr_in rfl R⟩
  · refine br_t (nI_le (a := 2) h2 (by omega)) ?_
    have ⟨c1, c2, c3⟩ := ys_two (zr_sle R).1 h2
    rcases Nat.lt_or_ge C M with hC | hC
    · have hC12 : C < 12 := by omega
      have hst := (R.2.2.2.2.2.1 (C - 1) (by omega)).2.2
      generalize hBd : zr_sn st (C - 1) = B at c2 c3 hst
      have hsta := (R.2.2.2.2.2.1 (B - 1) (by omega)).2.2
      have ha0 := (zr_sle R).2 (B - 1) (by omega)
      generalize hAd : zr_sn st (B - 1) = A0 at hsta ha0
      have hAa := R.2.2.2.2.2.2.2 (B - 1) (by omega)
      have hAb := R.2.2.2.2.2.2.2 (C - 1) (by omega)
      have ia : ∀ s, s < 2 → xa_In A0 (B - 1) em fi la fo (s * 12 + (B - 1)) := fun s hs => by rw [← hAd]; exact (hAa s hs).1
      have ib : ∀ s, s < 2 → xa_In B (C - 1) em fi la fo (s * 12 + (C - 1)) := fun s hs => by rw [← hBd]; exact (hAb s hs).1
      refine br_t (nI_lt hC (by omega)) (nm_r (nu_s1 c1) ⟨xs_in (by omega) (by omega), ?_⟩)
      rw [xs_cl (by omega : C - 1 < 4096), hst]
      refine nm_r (nu_s1 c2) ?_
      rw [xs_cl (by omega : B - 1 < 4096)]
      have amY : ∀ (s : Nat) (v : Int32), s < 2 → xw_Out v (∃ w, w.length ≤ N ∧ wo_Am (xa_An em fi la fo le (s * 12 + (B - 1))) (xa_An em fi la fo le (s * 12 + (C - 1))) w) → ∀ rost : Int32 → Prop, rost v →
          wpY_ambiguous rost (nI N, nI M, nI (wo_ws N), nI C, yt, yd, yo, tb, yk, ya, bf, yN, yV, yS) (nI s) (nI (B - 1)) (nI (C - 1)) := by
        intro s v hs hv rost H
        refine zc_amb (yw := 0) R.2.2.2.1 hs (by omega) (by omega) (by omega) (fun _ => zb_V) (fun _ => zb_V) ?_ ?_ hv H
        · intro w hw hl
          exact (zb_TL R zb_Agr hs (by omega) hw hl).symm
        · intro w hw hl
          exact (zb_TL R zb_Agr hs (by omega) hw hl).symm
      refine xw_cc (s := 0) (A0 := A0) (B := B) (a := B - 1) (b := C - 1) (by omega) (by omega) ha0 (by omega) c3 (by omega) hC12 R.2.1 hst (ia 0 (by omega)) (ib 0 (by omega)) ?_
      intro v1 em1 fi1 la1 fo1 pr1 fr1 F1 i1 w1 o1
      have X1 : zr_FX C em fi la fo em1 fi1 la1 fo1 := zr_FXt (s := 0) (by omega) hC12 zr_FXr F1
      rcases zc_out o1 with ⟨e1, n1⟩ | ⟨e1, e1', p1⟩
      · refine br_t e1 ?_
        have ia1 := (xe_FrI (lo := A0) (hi := B - 1) F1 (by omega : 1 * 12 + (B - 1) ≠ 0 * 12 + C)).mpr (ia 1 (by omega))
        have ib1 := (xe_FrI (lo := B) (hi := C - 1) F1 (by omega : 1 * 12 + (C - 1) ≠ 0 * 12 + C)).mpr (ib 1 (by omega))
        have ea1 := xe_FrA (le := le) F1 (by omega : 1 * 12 + (B - 1) ≠ 0 * 12 + C)
        have eb1 := xe_FrA (le := le) F1 (by omega : 1 * 12 + (C - 1) ≠ 0 * 12 + C)
        refine xw_cc (s := 1) (A0 := A0) (B := B) (a := B - 1) (b := C - 1) (by omega) (by omega) ha0 (by omega) c3 (by omega) hC12 R.2.1 hst ia1 ib1 ?_
        intro v2 em2 fi2 la2 fo2 pr2 fr2 F2 i2 w2 o2
        rw [ea1, eb1] at w2 o2
        have X2 : zr_FX C em fi la fo em2 fi2 la2 fo2 := zr_FXt (s := 1) (by omega) hC12 X1 F2
        rcases zc_out o2 with ⟨e2, n2⟩ | ⟨e2, e2', p2⟩
        · refine br_t e2 ?_
          have iva : vp_in (nI (B - 1)) 12 := xs_in (by omega) (by omega)
          have ivb : vp_in (nI (C - 1)) 12 := xs_in (by omega) (by omega)
          obtain ⟨wa, wa1, wa2, wa3, wa4, wa5, wa6⟩ := (R.2.2.2.2.2.2.1 (B - 1) (by omega)).2.2.2.2.2.2
          obtain ⟨wb, wb1, wb2, wb3, wb4, wb5, wb6⟩ := (R.2.2.2.2.2.2.1 (C - 1) (by omega)).2.2.2.2.2.2
          rw [hAd] at wa2
          rw [hBd] at wb2
          refine ⟨iva, ivb, ivb, ?_⟩
          rw [wa3, wa4, wb3, wb4]
          refine nm_r (zc_code wa1 wb1 (by omega)) ⟨iva, ivb, ?_⟩
          rw [nI_add]
          refine xs_setLeast hC12 _ _ ?_
          refine nm_r (nu_s1 (by omega)) ⟨iva, ?_⟩
          rw [hsta]
          refine xs_commit hC12 _ _ _ ?_
          refine zc_Y R hC h2 ?_
          rw [hBd]
          refine amY 0 v1 (by omega) o1 _ (br_t e1 (amY 1 v2 (by omega) o2 _ (br_t e2 ?_)))
          have acc : ∀ s, s < 2 → xa_In A0 C em2 fi2 la2 fo2 (s * 12 + C) ∧ ∀ w, xa_An em2 fi2 la2 fo2 le (s * 12 + C) w ↔ wo_Sp (xa_An em fi la fo le (s * 12 + (B - 1))) (xa_An em fi la fo le (s * 12 + (C - 1))) w := by
            intro s hs
            have : s = 0 ∨ s = 1 := by omega
            rcases this with rfl | rfl
            · refine ⟨(xe_FrI F2 (by omega : 0 * 12 + C ≠ 1 * 12 + C)).mpr i1, fun w => ?_⟩
              rw [xe_FrA F2 (by omega : 0 * 12 + C ≠ 1 * 12 + C)]
              exact w1 w
            · exact ⟨i2, w2⟩
          have nAm : ∀ s, s < 2 → ¬ ∃ w, w.length ≤ N ∧ wo_Am (xa_An em fi la fo le (s * 12 + (B - 1))) (xa_An em fi la fo le (s * 12 + (C - 1))) w := by
            intro s hs
            have : s = 0 ∨ s = 1 := by omega
            rcases this with rfl | rfl
            · exact n1
            · exact n2
          refine zb_fin (k := k + 3) (B := A0) R hC (by omega) X2 (fun j hj => rfl) R.2.1 (fun j hj => nu_un (by omega)) (fun j hj => nu_un (by omega)) (fun s hs => (acc s hs).1) (by rw [zb_dp3 (Or.inl rfl)]) ?_ ?_ rfl
          · intro tb' hag h01 s w hs hv hl _ rost H
            have key : wo_Sp (ys_T tb' s (zr_sn st (C - 1) - 1)) (ys_T tb' s (C - 1)) w ↔ xa_An em2 fi2 la2 fo2 le (s * 12 + C) w := by
              rw [(acc s hs).2, hBd]
              exact wo_SpC hv hl (fun v h1 h2 => zb_TL R hag hs (by omega) h1 h2) (fun v h1 h2 => zb_TL R hag hs (by omega) h1 h2)
            refine yb_k3 (sn := zr_sn st) h01 hs hC12 c1 (by omega) (by omega) hv hl (zb_ySt R 3) nu_us ?_ ?_
            · intro h
              exact H 1 (Or.inr rfl) fun _ => ⟨fun _ => key.mp h, fun _ => rfl⟩
            · intro h
              exact H 0 (Or.inl rfl) fun _ => ⟨fun h' => absurd h' (by decide), fun h' => absurd (key.mpr h') h⟩
          · intro tb2 hag hT
            have n1' : ¬ upd kd C 3 C = 1 := by rw [nu_us]; decide
            have n2' : ¬ upd kd C 3 C = 2 := by rw [nu_us]; decide
            have n4' : ¬ upd kd C 3 C = 4 := by rw [nu_us]; decide
            have n5' : ¬ upd kd C 3 C = 5 := by rw [nu_us]; decide
            have tl : ∀ s, s < 2 → ∀ v, wo_V v → v.length ≤ 6 → (zr_T tb2 s (B - 1) v ↔ xa_An em fi la fo le (s * 12 + (B - 1)) v) := fun s hs v _ h => zb_TA R hag hs (by omega) h
            have tr : ∀ s, s < 2 → ∀ v, wo_V v → v.length ≤ 6 → (zr_T tb2 s (C - 1) v ↔ xa_An em fi la fo le (s * 12 + (C - 1)) v) := fun s hs v _ h => zb_TA R hag hs (by omega) h
            refine ⟨Or.inr (Or.inr ⟨Or.inl nu_us, c1, ?_, ?_⟩), fun h => absurd h n1', fun h => absurd h n2', fun _ s hs => ?_, fun h => absurd h n4', fun h => absurd h n5', wa ++ wb, wo_Va.mpr ⟨wa1, wb1⟩, ?_, ?_, ?_, ?_, ?_⟩
            · rw [zb_snj (by omega), hBd]
              exact c2
            · rw [zb_sn (by omega), zb_snj (j := C - 1) (by omega), hBd, zb_snj (j := B - 1) (by omega), hAd]
            · rw [zb_snj (by omega), hBd]
              refine ⟨fun w hv hl => ?_, fun w hv hl h => nAm s hs ⟨w, hl, (wo_AmC hv (by omega) (tl s hs) (tr s hs)).mp h⟩⟩
              rw [hT s hs, (acc s hs).2, wo_SpC hv hl (tl s hs) (tr s hs)]
              exact ⟨fun h => h.2, fun h => ⟨hl, h⟩⟩
            · rw [zb_sn (by omega), List.length_append]
              omega
            · exact nu_us.trans (by rw [List.length_append])
            · exact nu_us
            · have q1 := (zb_TA R zb_Agr (s := 0) (j := B - 1) (w := wa) (by omega) (by omega) (by omega)).mp wa5
              have q2 := (zb_TA R zb_Agr (s := 0) (j := C - 1) (w := wb) (by omega) (by omega) (by omega)).mp wb5
              rw [hT 0 (by omega), (acc 0 (by omega)).2]
              exact ⟨by rw [List.length_append]; omega, wo_SpE.mpr ⟨wa, wb, rfl, q1, q2⟩⟩
            · intro v hv
              rw [hT 0 (by omega), (acc 0 (by omega)).2] at hv
              obtain ⟨hl, hv⟩ := hv
              obtain ⟨x, y, rfl, hx, hy⟩ := wo_SpE.mp hv
              rw [List.length_append] at hl
              refine zc_min wa1 wb1 (zb_V hx) (zb_V hy) (wa6 x ?_) (wb6 y ?_)
              · exact (zb_TA R zb_Agr (s := 0) (by omega) (by omega) (by omega)).mpr hx
              · exact (zb_TA R zb_Agr (s := 0) (by omega) (by omega) (by omega)).mpr hy
        · refine br_f e2 ?_
          refine zc_Y R hC h2 ?_
          rw [hBd]
          refine amY 0 v1 (by omega) o1 _ (br_t e1 (amY 1 v2 (by omega) o2 _ (br_f e2 ⟨rfl, zr_in rfl ?_⟩)))
          exact zr_keep R (fun _ _ => rfl) (fun _ _ => rfl) (fun _ _ => rfl) (fun _ _ => rfl) (fun _ _ => rfl) (fun _ _ => rfl) X2 zb_Agr (fun _ _ => rfl) (fun _ _ => rfl) R.2.1 R.2.2.2.1
      · refine br_f e1 ?_
        refine zc_Y R hC h2 ?_
        rw [hBd]
        refine amY 0 v1 (by omega) o1 _ (br_f e1 ⟨rfl, zr_in rfl ?_⟩)
        exact zr_keep R (fun _ _ => rfl) (fun _ _ => rfl) (fun _ _ => rfl) (fun _ _ => rfl) (fun _ _ => rfl) (fun _ _ => rfl) X1 zb_Agr (fun _ _ => rfl) (fun _ _ => rfl) R.2.1 R.2.2.2.1
    · have h3 := nI_nlt (a := C) (b := M) hC (by omega)
      refine br_f h3 ?_
      refine ys_depth (by omega) hy.1 ?_
      rw [hy.2]
      exact br_t (nI_le (a := 2) h2 (by omega)) (br_f h3 ⟨rfl, zr_in rfl R⟩)
end ZC
end
section
section ZI
/-- kind ITERATE: what Y lists is A, if A obeys the equation and the child lacks the empty word -/
theorem zi_HB {N M C : Nat} {kd ag st le ll lc em fi la fo wd sz tb yk ya bf : Nat → Int32} (R : zr_Rel N M C kd ag st le ll lc em fi la fo wd sz tb yk ya bf) (hC : C < 12) (h1 : 1 ≤ C) {ok : Nat → Prop} {A : Nat → List Nat → Prop}
    (hok : ∀ s, s < 2 → ok s → ¬ em (s * 12 + (C - 1)) = 1 ∧ ∀ w, A s w ↔ w = [] ∨ wo_Sp (xa_An em fi la fo le (s * 12 + (C - 1))) (A s) w) {yz ym yw yt yd yo : Int32} {yN yV yS : Nat → Int32} :
    yb_HB C ok A (fun r t s w => wpY_belongs r (yz, ym, yw, nI C, yt, yd, yo, t, upd yk C 4, upd ya C 0, bf, yN, yV, yS) (nI s) (nI C) (nI (wo_cd w))) tb := by
  intro tb' hag h01 s w hs hv hl hsh rost H
  have key : ok s → ((w = [] ∨ wo_Sp (ys_T tb' s (C - 1)) (ys_T tb' s C) w) ↔ A s w) := by
    intro hk
    obtain ⟨hne, hA⟩ := hok s hs hk
    rw [hA]
    refine or_congr Iff.rfl (exists_congr fun j => and_congr_right fun hj => ?_)
    rw [zb_TL R hag hs (by omega) (wo_Vt hv j) (by rw [List.length_take]; omega)]
    refine and_congr_right fun hx => ?_
    have hj1 : 1 ≤ j := by
      rcases Nat.eq_zero_or_pos j with e | e
      · rw [e, List.take_zero] at hx
        exact absurd hx hne
      · exact e
    exact hsh hk _ (wo_Vd hv j) (by rw [List.length_drop]; omega)
  refine yb_k4 (sn := zr_sn st) h01 hs hC h1 hv hl (zb_ySt R 4) nu_us ?_ ?_
  · intro h
    exact H 1 (Or.inr rfl) fun hk => ⟨fun _ => (key hk).mp h, fun _ => rfl⟩
  · intro h
    exact H 0 (Or.inl rfl) fun hk => ⟨fun h' => absurd h' (by decide), fun h' => absurd ((key hk).mpr h') h⟩
theorem i_vc_iterate {k : Nat} {u : SX} {v : SY} (I : i_Rel k u v) (hk : k + 3 ≤ 1538) : wpX_iterate (fun r u' => wpY_iterate (fun r' v' => r' = r ∧ i_Rel (k + 3) u' v') v) u := by
  refine zr_el (P := fun u v => wpX_iterate (fun r u' => wpY_iterate (fun r' v' => r' = r ∧ i_Rel (k + 3) u' v') v) u) ?_ I
  intro N M C xd xt kd ag st le ll lc em fi la fo pr fr wd sz ot tN tL tH tO tP yt yd yo tb yk ya bf yN yV yS R
  have hM := R.1
  have dl := ys_dpl (kd := kd) C
  have h01 := R.2.2.2.1
  rcases ze_len R with ⟨h0, d0⟩ | ⟨h1, d1⟩
  · have : ¬ (1 : Int32) ≤ nI (ys_dp kd C) := nI_ge (b := 1) (by omega) (by omega)
    exact br_f this (br_t (by rw [h0]; rfl) ⟨rfl, zr_in rfl R⟩)
  · rcases Nat.lt_or_ge C M with hC | hC
    · have hC12 : C < 12 := by omega
      refine br_t (nI_le (a := 1) d1 (by omega)) (br_t (nI_lt hC (by omega)) (nm_r (nu_s1 h1) ?_))
      have hst := (R.2.2.2.2.2.1 (C - 1) (by omega)).2.2
      have hs1 := (zr_sle R).2 (C - 1) (by omega)
      generalize hBd : zr_sn st (C - 1) = B at hst hs1
      have hA := R.2.2.2.2.2.2.2 (C - 1) (by omega)
      have ia : ∀ s, s < 2 → xa_In B (C - 1) em fi la fo (s * 12 + (C - 1)) := fun s hs => by rw [← hBd]; exact (hA s hs).1
      have te : ∀ (s : Nat) (t : Nat → Int32), s < 2 → yb_Ag C tb t → (ys_T t s (C - 1) [] ↔ em (s * 12 + (C - 1)) = 1) := fun s t hs hag => zb_TL R hag hs (by omega) wo_V0 (by simp)
      have h10 : ¬ (1 : Int32) = 0 := by decide
      have h01' : ¬ (0 : Int32) = 1 := by decide
      /- Y's walk up to the write, in case the child's source lacks the empty word -/
      have Y0 : ∀ qost : Int32 → SY → Prop, em (0 * 12 + (C - 1)) = 1 → qost 4 (nI N, nI M, nI (wo_ws N), nI C, yt, yd, yo, tb, yk, ya, bf, yN, yV, yS) → wpY_iterate qost (nI N, nI M, nI (wo_ws N), nI C, yt, yd, yo, tb, yk, ya, bf, yN, yV, yS) := by
        intro qost he H
        refine br_f (nI_ne0 (by omega) (by omega)) (br_t (nI_lt hC (by omega)) (nm_r (nu_s1 h1) ?_))
        exact ys_has (s := 0) (w := []) h01 (by omega) (by omega) wo_V0 (by simp) (fun _ => br_f h10 H) fun h => absurd ((te 0 tb (by omega) zb_Agr).mpr he) h
      have Y1 : ∀ (qost : Int32 → SY → Prop) (ok : Nat → Prop) (A : Nat → List Nat → Prop), em (0 * 12 + (C - 1)) = 0 → (∀ s, s < 2 → ok s → ¬ em (s * 12 + (C - 1)) = 1 ∧ ∀ w, A s w ↔ w = [] ∨ wo_Sp (xa_An em fi la fo le (s * 12 + (C - 1))) (A s) w) →
          (∀ tb2 : Nat → Int32, yb_Ag C tb tb2 → ys_01 tb2 → (∀ t, t < 2 → ok t → ∀ w, wo_V w → w.length ≤ 6 → (ys_T tb2 t C w ↔ A t w)) →
            wpY_ambiguous (fun r_35 => (((r_35 = 0 → (wpY_has (fun r_51 => (((r_51 = 0 → (wpY_ambiguous (fun r_67 => (((r_67 = 0 → (∀ yc' : Int32, yc' = nI C + 1 → (qost 0 (nI N, nI M, nI (wo_ws N), yc', yt, yd, yo, tb2, upd yk C 4, upd ya C 0, bf, yN, yV, yS)))) ∧ (¬ r_67 = 0 → (qost 5 (nI N, nI M, nI (wo_ws N), nI C, yt, yd, yo, tb2, upd yk C 4, upd ya C 0, bf, yN, yV, yS)))))) (nI N, nI M, nI (wo_ws N), nI C, yt, yd, yo, tb2, upd yk C 4, upd ya C 0, bf, yN, yV, yS) 1 (nI (C - 1)) (nI C))) ∧ (¬ r_51 = 0 → (qost 5 (nI N, nI M, nI (wo_ws N), nI C, yt, yd, yo, tb2, upd yk C 4, upd ya C 0, bf, yN, yV, yS)))))) (nI N, nI M, nI (wo_ws N), nI C, yt, yd, yo, tb2, upd yk C 4, upd ya C 0, bf, yN, yV, yS) 1 (nI (C - 1)) 0)) ∧ (¬ r_35 = 0 → (qost 4 (nI N, nI M, nI (wo_ws N), nI C, yt, yd, yo, tb2, upd yk C 4, upd ya C 0, bf, yN, yV, yS))))))
              (nI N, nI M, nI (wo_ws N), nI C, yt, yd, yo, tb2, upd yk C 4, upd ya C 0, bf, yN, yV, yS) 0 (nI (C - 1)) (nI C)) →
          wpY_iterate qost (nI N, nI M, nI (wo_ws N), nI C, yt, yd, yo, tb, yk, ya, bf, yN, yV, yS) := by
        intro qost ok A he hok H
        refine br_f (nI_ne0 (by omega) (by omega)) (br_t (nI_lt hC (by omega)) (nm_r (nu_s1 h1) ?_))
        refine ys_has (s := 0) (w := []) h01 (by omega) (by omega) wo_V0 (by simp) (fun h => absurd ((te 0 tb (by omega) zb_Agr).mp h) (by rw [he]; exact h01')) fun _ => br_t rfl ?_
        exact yb_write hC12 4 0 h01 (zi_HB R hC12 h1 hok) H
      /- an ambiguity test of Y against an outcome of X -/
      have am : ∀ (s : Nat) (v : Int32) (tb2 : Nat → Int32) (P : List Nat → Prop), s < 2 → yb_Ag C tb tb2 → ys_01 tb2 → (∀ w, P w → wo_V w) → (∀ w, wo_V w → w.length ≤ 6 → (ys_T tb2 s C w ↔ P w)) →
          xw_Out v (∃ w, w.length ≤ N ∧ wo_Am (xa_An em fi la fo le (s * 12 + (C - 1))) P w) → ∀ rost : Int32 → Prop, rost v →
          wpY_ambiguous rost (nI N, nI M, nI (wo_ws N), nI C, yt, yd, yo, tb2, upd yk C 4, upd ya C 0, bf, yN, yV, yS) (nI s) (nI (C - 1)) (nI C) := by
        intro s v tb2 P hs hag h01 hP hT hv rost H
        refine zc_amb (yw := 0) h01 hs (by omega) (by omega) (by omega) (fun _ => zb_V) hP ?_ ?_ hv H
        · intro w hw hl
          exact (zb_TL R hag hs (by omega) hw hl).symm
        · intro w hw hl
          exact (hT w hw hl).symm
      refine xw_ic (s := 0) (A0 := B) (a := C - 1) (by omega) (by omega) (by omega) (by omega) hC12 R.2.1 (ia 0 (by omega)) ?_
      intro v1 em1 fi1 la1 fo1 pr1 fr1 F1 g1 o1
      have X1 : zr_FX C em fi la fo em1 fi1 la1 fo1 := zr_FXt (s := 0) (by omega) hC12 zr_FXr F1
      have kp : ∀ (em' fi' la' fo' tb' yk' ya' : Nat → Int32), zr_FX C em fi la fo em' fi' la' fo' → yb_Ag C tb tb' → (∀ j, j < C → yk' j = yk j) → (∀ j, j < C → ya' j = ya j) → ys_01 tb' → zr_Rel N M C kd ag st le ll lc em' fi' la' fo' wd sz tb' yk' ya' bf := by
        intro em' fi' la' fo' tb' yk' ya' hX hag e1 e2 h01
        exact zr_keep R (fun _ _ => rfl) (fun _ _ => rfl) (fun _ _ => rfl) (fun _ _ => rfl) (fun _ _ => rfl) (fun _ _ => rfl) hX hag e1 e2 R.2.1 h01
      have uk : ∀ j, j < C → upd yk C 4 j = yk j := fun j hj => nu_un (by omega)
      have ua : ∀ j, j < C → upd ya C 0 j = ya j := fun j hj => nu_un (by omega)
      rcases (ia 0 (by omega)).1 with ea | ea
      · obtain ⟨i1, w1, o1⟩ := o1 ea
        have hok1 : ∀ s, s < 2 → s = 0 → ¬ em (s * 12 + (C - 1)) = 1 ∧ ∀ w, xa_An em1 fi1 la1 fo1 le (0 * 12 + C) w ↔ w = [] ∨ wo_Sp (xa_An em fi la fo le (s * 12 + (C - 1))) (xa_An em1 fi1 la1 fo1 le (0 * 12 + C)) w := by
          rintro s _ rfl
          exact ⟨by rw [ea]; exact h01', w1⟩
        rcases zc_out o1 with ⟨e1, n1⟩ | ⟨e1, e1', p1⟩
        · refine br_t e1 ?_
          have ia1 := (xe_FrI (lo := B) (hi := C - 1) F1 (by omega : 1 * 12 + (C - 1) ≠ 0 * 12 + C)).mpr (ia 1 (by omega))
          have ea1 := xe_FrA (le := le) F1 (by omega : 1 * 12 + (C - 1) ≠ 0 * 12 + C)
          have ee1 := (F1.1 (1 * 12 + (C - 1)) (by omega)).1
          refine xw_ic (s := 1) (A0 := B) (a := C - 1) (by omega) (by omega) (by omega) (by omega) hC12 R.2.1 ia1 ?_
          intro v2 em2 fi2 la2 fo2 pr2 fr2 F2 g2 o2
          rw [ee1] at g2 o2
          rw [ea1] at o2
          have X2 : zr_FX C em fi la fo em2 fi2 la2 fo2 := zr_FXt (s := 1) (by omega) hC12 X1 F2
          rcases (ia 1 (by omega)).1 with eb | eb
          · obtain ⟨i2, w2, o2⟩ := o2 eb
            have acc : ∀ s, s < 2 → xa_In B C em2 fi2 la2 fo2 (s * 12 + C) ∧ (∀ w, xa_An em2 fi2 la2 fo2 le (s * 12 + C) w ↔ w = [] ∨ wo_Sp (xa_An em fi la fo le (s * 12 + (C - 1))) (xa_An em2 fi2 la2 fo2 le (s * 12 + C)) w) := by
              intro s hs
              have : s = 0 ∨ s = 1 := by omega
              rcases this with rfl | rfl
              · refine ⟨(xe_FrI F2 (by omega : 0 * 12 + C ≠ 1 * 12 + C)).mpr i1, fun w => ?_⟩
                rw [xe_FrA F2 (by omega : 0 * 12 + C ≠ 1 * 12 + C)]
                exact w1 w
              · exact ⟨i2, w2⟩
            have nE : ∀ s, s < 2 → ¬ em (s * 12 + (C - 1)) = 1 := by
              intro s hs
              have : s = 0 ∨ s = 1 := by omega
              rcases this with rfl | rfl
              · rw [ea]; exact h01'
              · rw [eb]; exact h01'
            have o1' : xw_Out v1 (∃ w, w.length ≤ N ∧ wo_Am (xa_An em fi la fo le (0 * 12 + (C - 1))) (xa_An em2 fi2 la2 fo2 le (0 * 12 + C)) w) := by
              rw [xe_FrA F2 (by omega : 0 * 12 + C ≠ 1 * 12 + C)]
              exact o1
            rcases zc_out o2 with ⟨e2, n2⟩ | ⟨e2, e2', p2⟩
            · refine br_t e2 ?_
              refine xs_setLeast hC12 _ _ ?_
              refine ⟨xs_in (by omega) (by omega), ?_⟩
              rw [xs_cl (by omega : C - 1 < 4096), hst]
              refine xs_commit hC12 _ _ _ ?_
              refine Y1 _ (fun _ => True) (fun s w => xa_An em2 fi2 la2 fo2 le (s * 12 + C) w) ea (fun s hs _ => ⟨nE s hs, (acc s hs).2⟩) fun tb2 hag h012 hT => ?_
              refine am 0 v1 tb2 _ (by omega) hag h012 (fun _ => zb_V) (hT 0 (by omega) trivial) o1' _ (br_t e1 ?_)
              refine ys_has (s := 1) (w := []) h012 (by omega) (by omega) wo_V0 (by simp) (fun h => absurd ((te 1 tb2 (by omega) hag).mp h) (nE 1 (by omega))) fun _ => br_t rfl ?_
              refine am 1 v2 tb2 _ (by omega) hag h012 (fun _ => zb_V) (hT 1 (by omega) trivial) o2 _ (br_t e2 (nm_r (nI_1 C) ⟨rfl, zr_in (by rw [zb_dp2 (Or.inr rfl)]) ?_⟩))
              have hT2 : ∀ s, s < 2 → ∀ w, zr_T tb2 s C w ↔ w.length ≤ 6 ∧ xa_An em2 fi2 la2 fo2 le (s * 12 + C) w := by
                intro s hs w
                constructor
                · rintro ⟨hv, hl, h⟩
                  exact ⟨hl, (hT s hs trivial w hv hl).mp h⟩
                · rintro ⟨hl, h⟩
                  have hv := zb_V h
                  exact ⟨hv, hl, (hT s hs trivial w hv hl).mpr h⟩
              refine zr_push (zr_keep R (fun j hj => nu_un (by omega)) (fun j hj => nu_un (by omega)) (fun j hj => nu_un (by omega)) (fun _ _ => rfl) (fun j hj => nu_un (by omega)) (fun j hj => nu_un (by omega)) X2 hag uk ua R.2.1 h012) hC ?_ ?_ ?_
              · rw [nu_us, nu_us, nu_us, nu_us, nu_us, zb_sn (by omega)]
                exact ⟨rfl, rfl, rfl⟩
              · have n1' : ¬ upd kd C 4 C = 1 := by rw [nu_us]; decide
                have n2' : ¬ upd kd C 4 C = 2 := by rw [nu_us]; decide
                have n3' : ¬ upd kd C 4 C = 3 := by rw [nu_us]; decide
                have n5' : ¬ upd kd C 4 C = 5 := by rw [nu_us]; decide
                have tl : ∀ s, s < 2 → ∀ v, wo_V v → v.length ≤ 6 → (zr_T tb2 s (C - 1) v ↔ xa_An em fi la fo le (s * 12 + (C - 1)) v) := fun s hs v _ h => zb_TA R hag hs (by omega) h
                have tr : ∀ s, s < 2 → ∀ v, wo_V v → v.length ≤ 6 → (zr_T tb2 s C v ↔ xa_An em2 fi2 la2 fo2 le (s * 12 + C) v) := fun s hs v _ h => by
                  rw [hT2 s hs]
                  exact ⟨fun h => h.2, fun h' => ⟨h, h'⟩⟩
                refine ⟨Or.inr (Or.inl ⟨Or.inr nu_us, h1, ?_⟩), fun h => absurd h n1', fun h => absurd h n2', fun h => absurd h n3', fun _ s hs => ⟨?_, ?_, ?_⟩, fun h => absurd h n5', [], wo_V0, by simp, nu_us, nu_us, ?_, ?_⟩
                · rw [zb_sn (by omega), zb_snj (by omega), hBd]
                · intro h
                  exact nE s hs ((te s tb2 hs hag).mp h.2.2)
                · intro w hv hl
                  rw [tr s hs w hv hl, (acc s hs).2, wo_SpC hv hl (tl s hs) (tr s hs)]
                · intro w hv hl h
                  have h := (wo_AmC hv (by omega) (tl s hs) (tr s hs)).mp h
                  have : s = 0 ∨ s = 1 := by omega
                  rcases this with rfl | rfl
                  · rcases o1' with ⟨e, _⟩ | ⟨_, n⟩
                    · rw [e1] at e
                      exact h01' e
                    · exact n ⟨w, hl, h⟩
                  · exact n2 ⟨w, hl, h⟩
                · rw [tr 0 (by omega) [] wo_V0 (by simp), (acc 0 (by omega)).2]
                  exact Or.inl rfl
                · intro v _
                  simp [wo_cd]
              · intro s hs
                rw [zb_sn (by omega)]
                refine ⟨(acc s hs).1, fun w hv hl => ?_⟩
                rw [hT2 s hs]
                exact ⟨fun h => ⟨hl, h⟩, fun h => h.2⟩
            · refine br_f e2 ?_
              refine Y1 _ (fun _ => True) (fun s w => xa_An em2 fi2 la2 fo2 le (s * 12 + C) w) ea (fun s hs _ => ⟨nE s hs, (acc s hs).2⟩) fun tb2 hag h012 hT => ?_
              refine am 0 v1 tb2 _ (by omega) hag h012 (fun _ => zb_V) (hT 0 (by omega) trivial) o1' _ (br_t e1 ?_)
              refine ys_has (s := 1) (w := []) h012 (by omega) (by omega) wo_V0 (by simp) (fun h => absurd ((te 1 tb2 (by omega) hag).mp h) (nE 1 (by omega))) fun _ => br_t rfl ?_
              refine am 1 v2 tb2 _ (by omega) hag h012 (fun _ => zb_V) (hT 1 (by omega) trivial) o2 _ (br_f e2 ⟨rfl, zr_in rfl (kp _ _ _ _ _ _ _ X2 hag uk ua h012)⟩)
          · have e2 : v2 = 1 := g2 eb
            refine br_f (by rw [e2]; exact h10) ?_
            refine Y1 _ (fun s => s = 0) (fun _ w => xa_An em1 fi1 la1 fo1 le (0 * 12 + C) w) ea hok1 fun tb2 hag h012 hT => ?_
            refine am 0 v1 tb2 _ (by omega) hag h012 (fun _ => zb_V) (hT 0 (by omega) rfl) o1 _ (br_t e1 ?_)
            refine ys_has (s := 1) (w := []) h012 (by omega) (by omega) wo_V0 (by simp) (fun _ => br_f h10 ⟨rfl, zr_in rfl (kp _ _ _ _ _ _ _ X2 hag uk ua h012)⟩) fun h => absurd ((te 1 tb2 (by omega) hag).mpr eb) h
        · refine br_f e1 ?_
          refine Y1 _ (fun s => s = 0) (fun _ w => xa_An em1 fi1 la1 fo1 le (0 * 12 + C) w) ea hok1 fun tb2 hag h012 hT => ?_
          exact am 0 v1 tb2 _ (by omega) hag h012 (fun _ => zb_V) (hT 0 (by omega) rfl) o1 _ (br_f e1 ⟨rfl, zr_in rfl (kp _ _ _ _ _ _ _ X1 hag uk ua h012)⟩)
      · have e1 : v1 = 1 := g1 ea
        refine br_f (by rw [e1]; exact h10) ?_
        exact Y0 _ ea ⟨rfl, zr_in rfl (kp _ _ _ _ _ _ _ X1 zb_Agr (fun _ _ => rfl) (fun _ _ => rfl) h01)⟩
    · have h2 := nI_nlt (a := C) (b := M) hC (by omega)
      exact br_t (nI_le (a := 1) d1 (by omega)) (br_f h2 (br_f (nI_ne0 (by omega) (by omega)) (br_f h2 ⟨rfl, zr_in rfl R⟩)))
end ZI
end
section
section ZU
def zu_Q (N : Nat) (P Q : List Nat → Prop) : Prop := ∃ w, w.length ≤ N ∧ P w ∧ Q w
def zu_Q1 (N : Nat) (P Q : List Nat → Prop) : Prop := ∃ w, w ≠ [] ∧ w.length ≤ N ∧ P w ∧ Q w
def zu_T (N c : Nat) (P Q : List Nat → Prop) : Prop := ∃ w, wo_V w ∧ w.length ≤ N ∧ c ≤ wo_cd w ∧ P w ∧ Q w
variable {yz ym yw yc yt yd yo : Int32} {tb yk ya bf yN yV yS : Nat → Int32} {qost : Int32 → SY → Prop}
theorem zu_L (h01 : ys_01 tb) {a b N : Nat} (ha : a < 12) (hb : b < 12) (hN : N ≤ 6) : ∀ (m c n : Nat), c + m = wo_ws N → m < n →
    ((∃ w, wo_V w ∧ w.length ≤ N ∧ c ≤ wo_cd w ∧ ys_T tb 0 a w ∧ ys_T tb 0 b w) → qost 4 (yz, ym, nI (wo_ws N), yc, yt, yd, yo, tb, yk, ya, bf, yN, yV, yS)) →
    ((¬ ∃ w, wo_V w ∧ w.length ≤ N ∧ c ≤ wo_cd w ∧ ys_T tb 0 a w ∧ ys_T tb 0 b w) → wpY_write (fun u => match u with | (yz, ym, yw, yc, yt, yd, yo, tb, yk, ya, bf, yN, yV, yS) => (∀ yc' : Int32, yc' = yc + 1 → (qost 0 (yz, ym, yw, yc', yt, yd, yo, tb, yk, ya, bf, yN, yV, yS)))) (yz, ym, nI (wo_ws N), yc, yt, yd, yo, tb, yk, ya, bf, yN, yV, yS) 5 0) →
    wY_union_40 qost (nI b) (nI a) yz ym (nI (wo_ws N)) yc yt yd yo tb yk ya bf yN yV yS n (nI c) := by
  have hw := wo_wsM hN
  rw [wo_ws6] at hw
  intro m
  induction m with
  | zero =>
    intro c n hc hn H1 H0
    obtain ⟨n, rfl⟩ : ∃ m, n = m + 1 := ⟨n - 1, by omega⟩
    refine br_t (nI_le (by omega) (by omega)) (H0 ?_)
    rintro ⟨w, h1, h2, h3, _⟩
    have := (wo_wsLe h1 N).mpr h2
    omega
  | succ m ih =>
    intro c n hc hn H1 H0
    obtain ⟨n, rfl⟩ : ∃ m, n = m + 1 := ⟨n - 1, by omega⟩
    obtain ⟨w, hv, e⟩ := wo_sur c
    have hl := (wo_wsLe hv N).mp (by omega)
    subst e
    have nxt : ¬ (ys_T tb 0 a w ∧ ys_T tb 0 b w) → wY_union_40 qost (nI b) (nI a) yz ym (nI (wo_ws N)) yc yt yd yo tb yk ya bf yN yV yS n (nI (wo_cd w + 1)) := by
      intro hno
      refine ih _ n (by omega) (by omega) ?_ ?_
      · rintro ⟨v, h1, h2, h3, h4⟩
        exact H1 ⟨v, h1, h2, by omega, h4⟩
      · intro h
        refine H0 ?_
        rintro ⟨v, h1, h2, h3, h4⟩
        by_cases ev : wo_cd v = wo_cd w
        · have := wo_inj h1 hv ev
          subst this
          exact hno h4
        · exact h ⟨v, h1, h2, by omega, h4⟩
    refine br_f (nI_ge (by omega) (by omega)) ?_
    refine ys_has (s := 0) h01 (by omega) ha hv (by omega) ?_ ?_
    · intro h1
      refine br_f (by decide) (ys_has (s := 0) h01 (by omega) hb hv (by omega) ?_ ?_)
      · intro h2
        exact br_f (by decide) (H1 ⟨w, hv, hl, Nat.le_refl _, h1, h2⟩)
      · intro h2
        exact br_t rfl (nm_r (nI_1 _) (nxt fun h => h2 h.2))
    · intro h1
      exact br_t rfl (nm_r (nI_1 _) (nxt fun h => h1 h.1))
theorem zu_cmp {p q : List Nat} (hp : wo_V p) (hq : wo_V q) : (q.length < p.length → wo_cd q ≤ wo_cd p) ∧ (p.length < q.length → wo_cd p ≤ wo_cd q) ∧ (q.length = p.length → (wo_c4 q < wo_c4 p → wo_cd q ≤ wo_cd p) ∧ (wo_c4 p ≤ wo_c4 q → wo_cd p ≤ wo_cd q)) := by
  refine ⟨fun h => Nat.le_of_lt (wo_ltlen hq h), fun h => Nat.le_of_lt (wo_ltlen hp h), fun h => ⟨fun h' => Nat.le_of_lt ((wo_4ord hq hp h).mp h'), fun h' => ?_⟩⟩
  rcases Nat.lt_or_ge (wo_cd q) (wo_cd p) with h2 | h2
  · have := (wo_4ord hq hp h).mpr h2
    omega
  · exact h2
theorem i_vc_union {k : Nat} {u : SX} {v : SY} (I : i_Rel k u v) (hk : k + 3 ≤ 1538) : wpX_union (fun r u' => wpY_union (fun r' v' => r' = r ∧ i_Rel (k + 3) u' v') v) u := by
  refine zr_el (P := fun u v => wpX_union (fun r u' => wpY_union (fun r' v' => r' = r ∧ i_Rel (k + 3) u' v') v) u) ?_ I
  intro N M C xd xt kd ag st le ll lc em fi la fo pr fr wd sz ot tN tL tH tO tP yt yd yo tb yk ya bf yN yV yS R
  have hM := R.1
  have hy := zr_ySt R
  have dl := ys_dpl (kd := kd) C
  rcases Nat.lt_or_ge (ys_dp kd C) 2 with h2 | h2
  · refine br_f (nI_ge (b := 2) h2 (by omega)) ?_
    refine ys_depth (by omega) hy.1 ?_
    rw [hy.2]
    exact br_f (nI_ge (b := 2) h2 (by omega)) ⟨rfl, zr_in rfl R⟩
  · refine br_t (nI_le (a := 2) h2 (by omega)) ?_
    have ⟨c1, c2, c3⟩ := ys_two (zr_sle R).1 h2
    rcases Nat.lt_or_ge C M with hC | hC
    · have hC12 : C < 12 := by omega
      have hst := (R.2.2.2.2.2.1 (C - 1) (by omega)).2.2
      generalize hBd : zr_sn st (C - 1) = B at c2 c3 hst
      have hsta := (R.2.2.2.2.2.1 (B - 1) (by omega)).2.2
      have ha0 := (zr_sle R).2 (B - 1) (by omega)
      generalize hAd : zr_sn st (B - 1) = A0 at hsta ha0
      have hAa := R.2.2.2.2.2.2.2 (B - 1) (by omega)
      have hAb := R.2.2.2.2.2.2.2 (C - 1) (by omega)
      have ia : ∀ s, s < 2 → xa_In A0 (B - 1) em fi la fo (s * 12 + (B - 1)) := fun s hs => by rw [← hAd]; exact (hAa s hs).1
      have ib : ∀ s, s < 2 → xa_In B (C - 1) em fi la fo (s * 12 + (C - 1)) := fun s hs => by rw [← hBd]; exact (hAb s hs).1
      have h10 : ¬ (1 : Int32) = 0 := by decide
      have h01' : ¬ (0 : Int32) = 1 := by decide
      refine br_t (nI_lt hC (by omega)) (nm_r (nu_s1 c1) ⟨xs_in (by omega) (by omega), ?_⟩)
      rw [xs_cl (by omega : C - 1 < 4096), hst]
      refine nm_r (nu_s1 c2) ?_
      rw [xs_cl (by omega : B - 1 < 4096)]
      /- Y: the common words -/
      have Y : ∀ (qost : Int32 → SY → Prop), (zu_Q N (xa_An em fi la fo le (0 * 12 + (B - 1))) (xa_An em fi la fo le (0 * 12 + (C - 1))) → qost 4 (nI N, nI M, nI (wo_ws N), nI C, yt, yd, yo, tb, yk, ya, bf, yN, yV, yS)) →
          ((¬ zu_Q N (xa_An em fi la fo le (0 * 12 + (B - 1))) (xa_An em fi la fo le (0 * 12 + (C - 1)))) → wpY_write (fun u => match u with | (yz, ym, yw, yc, yt, yd, yo, tb, yk, ya, bf, yN, yV, yS) => (∀ yc' : Int32, yc' = yc + 1 → (qost 0 (yz, ym, yw, yc', yt, yd, yo, tb, yk, ya, bf, yN, yV, yS)))) (nI N, nI M, nI (wo_ws N), nI C, yt, yd, yo, tb, yk, ya, bf, yN, yV, yS) 5 0) →
          wpY_union qost (nI N, nI M, nI (wo_ws N), nI C, yt, yd, yo, tb, yk, ya, bf, yN, yV, yS) := by
        intro qost H1 H0
        refine zc_Y R hC h2 ?_
        rw [hBd]
        have key : zu_T N 0 (ys_T tb 0 (B - 1)) (ys_T tb 0 (C - 1)) ↔ zu_Q N (xa_An em fi la fo le (0 * 12 + (B - 1))) (xa_An em fi la fo le (0 * 12 + (C - 1))) := by
          constructor
          · rintro ⟨w, hv, hl, _, h1, h2⟩
            exact ⟨w, hl, (zb_TL R zb_Agr (s := 0) (by omega) (by omega) hv (by omega)).mp h1, (zb_TL R zb_Agr (s := 0) (by omega) (by omega) hv (by omega)).mp h2⟩
          · rintro ⟨w, hl, h1, h2⟩
            have hv := zb_V h1
            exact ⟨w, hv, hl, by omega, (zb_TL R zb_Agr (s := 0) (by omega) (by omega) hv (by omega)).mpr h1, (zb_TL R zb_Agr (s := 0) (by omega) (by omega) hv (by omega)).mpr h2⟩
        refine ⟨wo_ws N + 1, zu_L R.2.2.2.1 (by omega) (by omega) (by omega) (wo_ws N) 0 (wo_ws N + 1) (by omega) (by omega) (fun h => H1 (key.mp h)) fun h => H0 fun hh => h (key.mpr hh)⟩
      refine xs_merge (s := 0) (a := B - 1) (b := C - 1) (by omega) hC12 (by omega) (by omega) (ia 0 (by omega)).1 (ib 0 (by omega)).1 fun fo1 e he he1 f1 g1 => ?_
      have F1 : xe_Fr (0 * 12 + C) em fi la fo (upd em (0 * 12 + C) e) (upd fi (0 * 12 + C) (fi (0 * 12 + (B - 1)) ||| fi (0 * 12 + (C - 1)))) (upd la (0 * 12 + C) (la (0 * 12 + (B - 1)) ||| la (0 * 12 + (C - 1)))) fo1 :=
        ⟨fun j hj => ⟨nu_un hj, nu_un hj, nu_un hj⟩, f1⟩
      have ⟨i1, w1, cl1⟩ := xe_uni (s := 0) (le := le) (at' := 0 * 12 + C) (em' := upd em (0 * 12 + C) e) (fi' := upd fi (0 * 12 + C) (fi (0 * 12 + (B - 1)) ||| fi (0 * 12 + (C - 1)))) (la' := upd la (0 * 12 + C) (la (0 * 12 + (B - 1)) ||| la (0 * 12 + (C - 1)))) (fo' := fo1)
        ha0 (by omega) c3 (by omega) hC12 (ia 0 (by omega)) (ib 0 (by omega)) (by rw [nu_us]; exact he) (by rw [nu_us]; exact he1) nu_us nu_us g1
      have X1 : zr_FX C em fi la fo _ _ _ _ := zr_FXt (s := 0) (by omega) hC12 zr_FXr F1
      have ea0 : (upd em (0 * 12 + C) e) (B - 1) = em (0 * 12 + (B - 1)) := by rw [nu_un (by omega), Nat.zero_mul, Nat.zero_add]
      have eb0 : (upd em (0 * 12 + C) e) (C - 1) = em (0 * 12 + (C - 1)) := by rw [nu_un (by omega), Nat.zero_mul, Nat.zero_add]
      generalize upd em (0 * 12 + C) e = em1 at F1 i1 w1 cl1 X1 ea0 eb0 ⊢
      generalize upd fi (0 * 12 + C) (fi (0 * 12 + (B - 1)) ||| fi (0 * 12 + (C - 1))) = fi1 at F1 i1 w1 cl1 X1 ⊢
      generalize upd la (0 * 12 + C) (la (0 * 12 + (B - 1)) ||| la (0 * 12 + (C - 1))) = la1 at F1 i1 w1 cl1 X1 ⊢
      have kp : ∀ (em' fi' la' fo' : Nat → Int32), zr_FX C em fi la fo em' fi' la' fo' → zr_Rel N M C kd ag st le ll lc em' fi' la' fo' wd sz tb yk ya bf := by
        intro em' fi' la' fo' hX
        exact zr_keep R (fun _ _ => rfl) (fun _ _ => rfl) (fun _ _ => rfl) (fun _ _ => rfl) (fun _ _ => rfl) (fun _ _ => rfl) hX zb_Agr (fun _ _ => rfl) (fun _ _ => rfl) R.2.1 R.2.2.2.1
      have D12 : ∀ q, xa_D A0 C q → q < 12 := fun q h => by have := h.2; omega
      have iva : vp_in (nI (B - 1)) 12 := xs_in (by omega) (by omega)
      have ivb : vp_in (nI (C - 1)) 12 := xs_in (by omega) (by omega)
      /- the walk behind the test of the empty words -/
      have go : ¬ (em (0 * 12 + (B - 1)) = 1 ∧ em (0 * 12 + (C - 1)) = 1) →
          wX_union_64 (fun r u' => wpY_union (fun r' v' => r' = r ∧ i_Rel (k + 3) u' v') (nI N, nI M, nI (wo_ws N), nI C, yt, yd, yo, tb, yk, ya, bf, yN, yV, yS)) (nI (C - 1)) (nI (B - 1)) (nI N) (nI M) (nI C) (nI (ys_dp kd C)) xd xt kd ag st le ll lc em1 fi1 la1 fo1 pr fr wd sz ot tN tL tH tO tP := by
        intro hne
        have cl2 : zu_Q1 N (xa_An em fi la fo le (0 * 12 + (B - 1))) (xa_An em fi la fo le (0 * 12 + (C - 1))) ↔ zu_Q N (xa_An em fi la fo le (0 * 12 + (B - 1))) (xa_An em fi la fo le (0 * 12 + (C - 1))) := by
          constructor
          · rintro ⟨w, _, h⟩
            exact ⟨w, h⟩
          · rintro ⟨w, hl, h1, h2⟩
            refine ⟨w, ?_, hl, h1, h2⟩
            rintro rfl
            exact hne ⟨h1, h2⟩
        unfold wX_union_64
        refine ⟨ivb, ?_⟩
        rw [xs_cl (by omega : C - 1 < 4096), xs_cl (by omega : B - 1 < 4096), hst]
        have eC : nI C = nI (0 * 12 + C) := by rw [Nat.zero_mul, Nat.zero_add]
        have xc : ∀ (q : Int32 → SX → Prop), wpX_clash q (nI N, nI M, nI C, nI (ys_dp kd C), xd, xt, kd, ag, st, le, ll, lc, em1, fi1, la1, fo1, pr, fr, wd, sz, ot, tN, tL, tH, tO, tP) (nI (0 * 12 + C)) 0 0 (nI B) → wpX_clash q (nI N, nI M, nI C, nI (ys_dp kd C), xd, xt, kd, ag, st, le, ll, lc, em1, fi1, la1, fo1, pr, fr, wd, sz, ot, tN, tL, tH, tO, tP) (nI C) 0 0 (nI B) := by
          intro q h
          rw [← eC] at h
          exact h
        refine xc _ ?_
        refine xd_clash (by omega) (by omega) (by omega) R.2.1 (fun q h => D12 q (i1.2.1 _ h)) (fun p q h => D12 q (i1.2.2.1 _ _ h).2) (fun q h => by rw [b_0] at h; exact absurd h (by decide)) (fun q h => D12 q (i1.2.2.2 _ h)) ?_ ?_
        · intro h pr' fr'
          refine br_f h10 (Y _ (fun _ => ⟨rfl, zr_in rfl (kp _ _ _ _ X1)⟩) fun hh => absurd (cl2.mp ((cl1 N).mp h)) hh)
        · intro h pr' fr'
          have nC : ¬ zu_Q N (xa_An em fi la fo le (0 * 12 + (B - 1))) (xa_An em fi la fo le (0 * 12 + (C - 1))) := fun hh => h ((cl1 N).mpr (cl2.mpr hh))
          refine br_t rfl ?_
          have ia1 := (xe_FrI (lo := A0) (hi := B - 1) F1 (by omega : 1 * 12 + (B - 1) ≠ 0 * 12 + C)).mpr (ia 1 (by omega))
          have ib1 := (xe_FrI (lo := B) (hi := C - 1) F1 (by omega : 1 * 12 + (C - 1) ≠ 0 * 12 + C)).mpr (ib 1 (by omega))
          refine xs_merge (s := 1) (a := B - 1) (b := C - 1) (by omega) hC12 (by omega) (by omega) ia1.1 ib1.1 fun fo2 e2 he2 he21 f2 g2 => ?_
          have F2 : xe_Fr (1 * 12 + C) em1 fi1 la1 fo1 (upd em1 (1 * 12 + C) e2) (upd fi1 (1 * 12 + C) (fi1 (1 * 12 + (B - 1)) ||| fi1 (1 * 12 + (C - 1)))) (upd la1 (1 * 12 + C) (la1 (1 * 12 + (B - 1)) ||| la1 (1 * 12 + (C - 1)))) fo2 :=
            ⟨fun j hj => ⟨nu_un hj, nu_un hj, nu_un hj⟩, f2⟩
          have ⟨i2, w2, _⟩ := xe_uni (s := 1) (le := le) (at' := 1 * 12 + C) (em' := upd em1 (1 * 12 + C) e2) (fi' := upd fi1 (1 * 12 + C) (fi1 (1 * 12 + (B - 1)) ||| fi1 (1 * 12 + (C - 1)))) (la' := upd la1 (1 * 12 + C) (la1 (1 * 12 + (B - 1)) ||| la1 (1 * 12 + (C - 1)))) (fo' := fo2)
            ha0 (by omega) c3 (by omega) hC12 ia1 ib1 (by rw [nu_us]; exact he2) (by rw [nu_us]; exact he21) nu_us nu_us g2
          rw [xe_FrA F1 (by omega : 1 * 12 + (B - 1) ≠ 0 * 12 + C), xe_FrA F1 (by omega : 1 * 12 + (C - 1) ≠ 0 * 12 + C)] at w2
          have X2 : zr_FX C em fi la fo _ _ _ _ := zr_FXt (s := 1) (by omega) hC12 X1 F2
          generalize upd em1 (1 * 12 + C) e2 = em2 at F2 i2 w2 X2 ⊢
          generalize upd fi1 (1 * 12 + C) (fi1 (1 * 12 + (B - 1)) ||| fi1 (1 * 12 + (C - 1))) = fi2 at F2 i2 w2 X2 ⊢
          generalize upd la1 (1 * 12 + C) (la1 (1 * 12 + (B - 1)) ||| la1 (1 * 12 + (C - 1))) = la2 at F2 i2 w2 X2 ⊢
          have acc : ∀ s, s < 2 → xa_In A0 C em2 fi2 la2 fo2 (s * 12 + C) ∧ ∀ w, xa_An em2 fi2 la2 fo2 le (s * 12 + C) w ↔ xa_An em fi la fo le (s * 12 + (B - 1)) w ∨ xa_An em fi la fo le (s * 12 + (C - 1)) w := by
            intro s hs
            have : s = 0 ∨ s = 1 := by omega
            rcases this with rfl | rfl
            · refine ⟨(xe_FrI F2 (by omega : 0 * 12 + C ≠ 1 * 12 + C)).mpr i1, fun w => ?_⟩
              rw [xe_FrA F2 (by omega : 0 * 12 + C ≠ 1 * 12 + C)]
              exact w1 w
            · exact ⟨i2, w2⟩
          obtain ⟨wa, wa1, wa2, wa3, wa4, wa5, wa6⟩ := (R.2.2.2.2.2.2.1 (B - 1) (by omega)).2.2.2.2.2.2
          obtain ⟨wb, wb1, wb2, wb3, wb4, wb5, wb6⟩ := (R.2.2.2.2.2.2.1 (C - 1) (by omega)).2.2.2.2.2.2
          rw [hAd] at wa2
          rw [hBd] at wb2
          have fin : ∀ (d : Nat) (w : List Nat), (d = B - 1 ∨ d = C - 1) → wo_V w → 2 * w.length ≤ C - A0 + 2 → ll d = nI w.length → lc d = nI (wo_c4 w) → zr_T tb 0 d w → wo_cd w ≤ wo_cd wa → wo_cd w ≤ wo_cd wb →
              wX_union_152 (fun r u' => wpY_union (fun r' v' => r' = r ∧ i_Rel (k + 3) u' v') (nI N, nI M, nI (wo_ws N), nI C, yt, yd, yo, tb, yk, ya, bf, yN, yV, yS)) (nI (B - 1)) (nI d) (nI N) (nI M) (nI C) (nI (ys_dp kd C)) xd xt kd ag st le ll lc em2 fi2 la2 fo2 pr' fr' wd sz ot tN tL tH tO tP := by
            intro d w hd hv hl e3 e4 e5 m1 m2
            have ivd : vp_in (nI d) 12 := xs_in (by omega) (by omega)
            unfold wX_union_152
            refine ⟨ivd, ivd, ?_⟩
            rw [xs_cl (by omega : d < 4096), xs_cl (by omega : B - 1 < 4096), e3, e4]
            refine xs_setLeast hC12 _ _ ?_
            refine nm_r (nu_s1 (by omega)) ⟨iva, ?_⟩
            rw [hsta]
            refine xs_commit hC12 _ _ _ ?_
            refine Y _ (fun hh => absurd hh nC) fun _ => ?_
            refine zb_fin (k := k + 3) (B := A0) R hC (by omega) X2 (fun j hj => rfl) R.2.1 (fun j hj => nu_un (by omega)) (fun j hj => nu_un (by omega)) (fun s hs => (acc s hs).1) (by rw [zb_dp3 (Or.inr rfl)]) ?_ ?_ rfl
            · intro tb' hag h01 s w hs hv hl _ rost H
              have key : (ys_T tb' s (zr_sn st (C - 1) - 1) w ∨ ys_T tb' s (C - 1) w) ↔ xa_An em2 fi2 la2 fo2 le (s * 12 + C) w := by
                rw [(acc s hs).2, hBd, zb_TL R hag hs (by omega) hv hl, zb_TL R hag hs (by omega) hv hl]
              refine yb_k5 (sn := zr_sn st) h01 hs hC12 c1 (by omega) (by omega) hv hl (zb_ySt R 5) nu_us ?_ ?_
              · intro h
                exact H 1 (Or.inr rfl) fun _ => ⟨fun _ => key.mp h, fun _ => rfl⟩
              · intro h
                exact H 0 (Or.inl rfl) fun _ => ⟨fun h' => absurd h' (by decide), fun h' => absurd (key.mpr h') h⟩
            · intro tb2 hag hT
              have n1' : ¬ upd kd C 5 C = 1 := by rw [nu_us]; decide
              have n2' : ¬ upd kd C 5 C = 2 := by rw [nu_us]; decide
              have n3' : ¬ upd kd C 5 C = 3 := by rw [nu_us]; decide
              have n4' : ¬ upd kd C 5 C = 4 := by rw [nu_us]; decide
              refine ⟨Or.inr (Or.inr ⟨Or.inr nu_us, c1, ?_, ?_⟩), fun h => absurd h n1', fun h => absurd h n2', fun h => absurd h n3', fun h => absurd h n4', fun _ s hs w => ?_, w, hv, ?_, nu_us, nu_us, ?_, ?_⟩
              · rw [zb_snj (by omega), hBd]
                exact c2
              · rw [zb_sn (by omega), zb_snj (j := C - 1) (by omega), hBd, zb_snj (j := B - 1) (by omega), hAd]
              · rw [zb_snj (by omega), hBd, hT s hs, (acc s hs).2]
                constructor
                · rintro ⟨hl, h | h⟩
                  · exact Or.inl ((zb_TA R hag hs (by omega) hl).mpr h)
                  · exact Or.inr ((zb_TA R hag hs (by omega) hl).mpr h)
                · rintro (h | h)
                  · exact ⟨h.2.1, Or.inl ((zb_TA R hag hs (by omega) h.2.1).mp h)⟩
                  · exact ⟨h.2.1, Or.inr ((zb_TA R hag hs (by omega) h.2.1).mp h)⟩
              · rw [zb_sn (by omega)]
                exact hl
              · rw [hT 0 (by omega), (acc 0 (by omega)).2]
                refine ⟨e5.2.1, ?_⟩
                rcases hd with rfl | rfl
                · exact Or.inl ((zb_TA R zb_Agr (s := 0) (by omega) (by omega) e5.2.1).mp e5)
                · exact Or.inr ((zb_TA R zb_Agr (s := 0) (by omega) (by omega) e5.2.1).mp e5)
              · intro v hv
                rw [hT 0 (by omega), (acc 0 (by omega)).2] at hv
                obtain ⟨hl, h | h⟩ := hv
                · exact Nat.le_trans m1 (wa6 v ((zb_TA R zb_Agr (s := 0) (by omega) (by omega) hl).mpr h))
                · exact Nat.le_trans m2 (wb6 v ((zb_TA R zb_Agr (s := 0) (by omega) (by omega) hl).mpr h))
          have finA := fin (B - 1) wa (Or.inl rfl) wa1 (by omega) wa3 wa4 wa5 (Nat.le_refl _)
          have finB := fun m => fin (C - 1) wb (Or.inr rfl) wb1 (by omega) wb3 wb4 wb5 m (Nat.le_refl _)
          have la6 : wa.length ≤ 6 := by omega
          have lb6 : wb.length ≤ 6 := by omega
          have c4a : wo_c4 wa < 2 ^ 31 := by
            have := wo_4lt wa1
            have := zc_46 la6
            omega
          have c4b : wo_c4 wb < 2 ^ 31 := by
            have := wo_4lt wb1
            have := zc_46 lb6
            omega
          have ⟨q1, q2, q3⟩ := zu_cmp wa1 wb1
          unfold wX_union_137 wX_union_141 wX_union_142
          refine ⟨ivb, iva, ?_⟩
          rw [wa3, wa4, wb3, wb4]
          rcases Nat.lt_trichotomy wb.length wa.length with hl | hl | hl
          · exact br_t (nI_lt hl (by omega)) (br_f h10 (finB (q1 hl)))
          · refine br_f (nI_nlt (by omega) (by omega)) ⟨ivb, iva, br_t (by rw [hl]) ⟨ivb, iva, ?_⟩⟩
            rcases Nat.lt_or_ge (wo_c4 wb) (wo_c4 wa) with hc | hc
            · exact br_f (nI_ge hc c4a) (br_f h10 (finB ((q3 hl).1 hc)))
            · exact br_t (nI_le hc c4b) (br_t rfl (finA ((q3 hl).2 hc)))
          · refine br_f (nI_nlt (by omega) (by omega)) ⟨ivb, iva, br_f ?_ (br_t rfl (finA (q2 hl)))⟩
            rw [nI_eq (by omega) (by omega)]
            omega
      refine ⟨xs_in (by omega) (by omega), ?_⟩
      rw [ea0]
      rcases (ia 0 (by omega)).1 with ea | ea
      · exact br_t ea (go fun h => h01' (ea.symm.trans h.1))
      · refine br_f (by rw [ea]; exact h10) ⟨xs_in (by omega) (by omega), ?_⟩
        rw [eb0]
        rcases (ib 0 (by omega)).1 with eb | eb
        · exact br_t eb (go fun h => h01' (eb.symm.trans h.2))
        · refine br_f (by rw [eb]; exact h10) ?_
          exact Y _ (fun _ => ⟨rfl, zr_in rfl (kp _ _ _ _ X1)⟩) fun hh => absurd ⟨[], by simp, ea, eb⟩ hh
    · have h3 := nI_nlt (a := C) (b := M) hC (by omega)
      refine br_f h3 ?_
      refine ys_depth (by omega) hy.1 ?_
      rw [hy.2]
      exact br_t (nI_le (a := 2) h2 (by omega)) (br_f h3 ⟨rfl, zr_in rfl R⟩)
end ZU
end
section
section XR
/-! output so far -/
def xr_O (o : List Nat) (ot : Nat → Int32) : Prop := ∀ j, j < 6 → j < o.length → ot j = nI (o.getD j 0)
theorem xr_gd {o p : List Nat} {j : Nat} (h : j < o.length) : (o ++ p).getD j 0 = o.getD j 0 := by
  rw [List.getD_eq_getElem?_getD, List.getD_eq_getElem?_getD, List.getElem?_append_left h]
theorem xr_Os {o : List Nat} {ot : Nat → Int32} {c : Nat} (h : xr_O o ot) (ot' : Nat → Int32) (e : (o.length < 6 ∧ ot' = upd ot o.length (nI c)) ∨ (6 ≤ o.length ∧ ot' = ot)) : xr_O (o ++ [c]) ot' := by
  intro j h6 hj
  rw [List.length_append, List.length_singleton] at hj
  rcases e with ⟨h1, rfl⟩ | ⟨h1, rfl⟩
  · by_cases e : j = o.length
    · subst e
      rw [nu_us]
      simp
    · rw [nu_un e, h j h6 (by omega), xr_gd (by omega)]
  · rw [h j h6 (by omega), xr_gd (by omega)]
variable {xl xm xc xn xd xt : Int32} {kd ag st le ll lc em fi la fo pr fr wd sz ot tN tL tH tO tP : Nat → Int32} {post : SX → Prop} {qost : Int32 → SX → Prop} {rost : Int32 → Prop}
theorem xr_6 {m : Nat} (h : m < 100000) {A B : Prop} (f : 6 ≤ m → A) (g : m < 6 → B) : (6 ≤ nI m → A) ∧ (¬ 6 ≤ nI m → B) := by
  rcases Nat.lt_or_ge m 6 with h1 | h1
  · exact br_f (nI_ge (b := 6) h1 (by omega)) (g h1)
  · exact br_t (nI_le (a := 6) h1 (by omega)) (f h1)
theorem xr_emit {o : List Nat} (hO : xr_O o ot) (hl : o.length < 50000) (c : Nat) (H : ∀ ot' : Nat → Int32, xr_O (o ++ [c]) ot' → post (xl, xm, xc, xn, nI (o ++ [c]).length, xt, kd, ag, st, le, ll, lc, em, fi, la, fo, pr, fr, wd, sz, ot', tN, tL, tH, tO, tP)) : wpX_emit post (xl, xm, xc, xn, nI o.length, xt, kd, ag, st, le, ll, lc, em, fi, la, fo, pr, fr, wd, sz, ot, tN, tL, tH, tO, tP) (nI c) := by
  unfold wpX_emit
  dsimp only
  rw [List.length_append, List.length_singleton] at H
  refine xr_6 (by omega) (fun h => nm_r (nI_1 _) (H ot (xr_Os hO ot (Or.inr ⟨h, rfl⟩)))) fun h => ⟨xs_in h (by omega), ?_⟩
  rw [xs_cl (by omega)]
  exact nm_e (nm_r (nI_1 _) (H _ (xr_Os hO _ (Or.inl ⟨h, rfl⟩))))
theorem xr_partL {s hi : Nat} (hs : s < 2) (h6 : hi ≤ 6) (hw : xf_W wd) : ∀ (m k n : Nat) (o : List Nat) (ot : Nat → Int32), k + m = hi → m < n → xr_O o ot → o.length + m < 50000 →
    (∀ ot' : Nat → Int32, xr_O (o ++ wo_sg (xf_f wd s) k m) ot' → post (xl, xm, xc, xn, nI (o ++ wo_sg (xf_f wd s) k m).length, xt, kd, ag, st, le, ll, lc, em, fi, la, fo, pr, fr, wd, sz, ot', tN, tL, tH, tO, tP)) → wX_emitPart_3 post (nI s) (nI hi) n (nI k) xl xm xc xn (nI o.length) xt kd ag st le ll lc em fi la fo pr fr wd sz ot tN tL tH tO tP := by
  intro m
  induction m with
  | zero =>
    intro k n o ot hk hn hO hl H
    obtain ⟨n, rfl⟩ : ∃ m, n = m + 1 := ⟨n - 1, by omega⟩
    obtain rfl : k = hi := by omega
    rw [show wo_sg (xf_f wd s) k 0 = [] from rfl, List.append_nil] at H
    exact br_t (nI_le (Nat.le_refl _) (by omega)) (H ot hO)
  | succ m ih =>
    intro k n o ot hk hn hO hl H
    obtain ⟨n, rfl⟩ : ∃ m, n = m + 1 := ⟨n - 1, by omega⟩
    refine br_f (nI_ge (by omega) (by omega)) ⟨xf_iv hs (by omega), ?_⟩
    rw [xf_ix hs (by omega), (xf_w hw hs (by omega)).2]
    refine xr_emit hO (by omega) _ fun ot1 h1 => nm_r (nI_1 k) ?_
    refine ih (k + 1) n _ ot1 (by omega) (by omega) h1 (by rw [List.length_append, List.length_singleton]; omega) ?_
    rw [List.append_assoc]
    exact H
theorem xr_part {s lo hi : Nat} {o : List Nat} (hO : xr_O o ot) (hl : o.length < 40000) (hs : s < 2) (h6 : hi ≤ 6) (hlo : lo ≤ hi) (hw : xf_W wd)
    (H : ∀ ot' : Nat → Int32, xr_O (o ++ wo_sg (xf_f wd s) lo (hi - lo)) ot' → post (xl, xm, xc, xn, nI (o ++ wo_sg (xf_f wd s) lo (hi - lo)).length, xt, kd, ag, st, le, ll, lc, em, fi, la, fo, pr, fr, wd, sz, ot', tN, tL, tH, tO, tP)) : wpX_emitPart post (xl, xm, xc, xn, nI o.length, xt, kd, ag, st, le, ll, lc, em, fi, la, fo, pr, fr, wd, sz, ot, tN, tL, tH, tO, tP) (nI s) (nI lo) (nI hi) :=
  ⟨hi - lo + 1, xr_partL hs h6 hw (hi - lo) lo _ o ot (by omega) (by omega) hO (by omega) H⟩
theorem xr_push {h : Nat} (hh : h < 64) (p0 p1 p2 p3 p4 : Int32) (H : post (xl, xm, xc, xn, xd, nI (h + 1), kd, ag, st, le, ll, lc, em, fi, la, fo, pr, fr, wd, sz, ot, upd tN h p0, upd tL h p1, upd tH h p2, upd tO h p3, upd tP h p4)) : wpX_push post (xl, xm, xc, xn, xd, nI h, kd, ag, st, le, ll, lc, em, fi, la, fo, pr, fr, wd, sz, ot, tN, tL, tH, tO, tP) p0 p1 p2 p3 p4 := by
  unfold wpX_push
  dsimp only
  rw [xs_cl (by omega : h < 4096)]
  have iv : vp_in (nI h) 64 := xs_in hh (by omega)
  exact br_f (nI_ge (b := 64) hh (by omega)) ⟨iv, nm_e ⟨iv, nm_e ⟨iv, nm_e ⟨iv, nm_e ⟨iv, nm_e (nm_r (nI_1 h) H)⟩⟩⟩⟩⟩
/-- the stack below h stays -/
def xr_F (h : Nat) (tN tL tH tO tP tN' tL' tH' tO' tP' : Nat → Int32) : Prop := ∀ j, j < h → tN' j = tN j ∧ tL' j = tL j ∧ tH' j = tH j ∧ tO' j = tO j ∧ tP' j = tP j
theorem xr_Fr {h : Nat} {tN tL tH tO tP : Nat → Int32} : xr_F h tN tL tH tO tP tN tL tH tO tP := fun _ _ => ⟨rfl, rfl, rfl, rfl, rfl⟩
theorem xr_Ft {h : Nat} {tN tL tH tO tP tN' tL' tH' tO' tP' tN2 tL2 tH2 tO2 tP2 : Nat → Int32} (a : xr_F h tN tL tH tO tP tN' tL' tH' tO' tP') (b : xr_F h tN' tL' tH' tO' tP' tN2 tL2 tH2 tO2 tP2) : xr_F h tN tL tH tO tP tN2 tL2 tH2 tO2 tP2 := by
  intro j hj
  have ⟨a1, a2, a3, a4, a5⟩ := a j hj
  have ⟨b1, b2, b3, b4, b5⟩ := b j hj
  exact ⟨b1.trans a1, b2.trans a2, b3.trans a3, b4.trans a4, b5.trans a5⟩
theorem xr_Fl {h h' : Nat} {tN tL tH tO tP tN' tL' tH' tO' tP' : Nat → Int32} (a : xr_F h' tN tL tH tO tP tN' tL' tH' tO' tP') (hl : h ≤ h') : xr_F h tN tL tH tO tP tN' tL' tH' tO' tP' := fun j hj => a j (by omega)
theorem xr_Fu {h k : Nat} (hk : h ≤ k) {tN tL tH tO tP : Nat → Int32} {p0 p1 p2 p3 p4 : Int32} : xr_F h tN tL tH tO tP (upd tN k p0) (upd tL k p1) (upd tH k p2) (upd tO k p3) (upd tP k p4) :=
  fun j hj => ⟨nu_un (by omega), nu_un (by omega), nu_un (by omega), nu_un (by omega), nu_un (by omega)⟩
/-! forward, one task -/
theorem xr_f0 {i lo hi : Nat} {o : List Nat} (hi12 : i < 12) (hk : kd i = 0) (hO : xr_O o ot) (hl : o.length < 40000) (h6 : hi ≤ 6) (hlo : lo ≤ hi) (hw : xf_W wd)
    (H : ∀ ot' : Nat → Int32, xr_O (o ++ wo_sg (xf_f wd 0) lo (hi - lo)) ot' → post (xl, xm, xc, xn, nI (o ++ wo_sg (xf_f wd 0) lo (hi - lo)).length, xt, kd, ag, st, le, ll, lc, em, fi, la, fo, pr, fr, wd, sz, ot', tN, tL, tH, tO, tP)) : wpX_forward post (xl, xm, xc, xn, nI o.length, xt, kd, ag, st, le, ll, lc, em, fi, la, fo, pr, fr, wd, sz, ot, tN, tL, tH, tO, tP) (nI i) (nI lo) (nI hi) := by
  unfold wpX_forward
  dsimp only
  rw [xs_cl (by omega : i < 4096), hk]
  exact ⟨xs_in hi12 (by omega), nm_e (br_t rfl (xr_part (s := 0) hO hl (by omega) h6 hlo hw H))⟩
theorem xr_f1 {i d : Nat} {lo hi : Int32} {o : List Nat} (hi12 : i < 12) (hk : kd i = 1) (ha : ag i = nI d) (hO : xr_O o ot) (hl : o.length < 40000)
    (H : ∀ ot' : Nat → Int32, xr_O (o ++ [d]) ot' → post (xl, xm, xc, xn, nI (o ++ [d]).length, xt, kd, ag, st, le, ll, lc, em, fi, la, fo, pr, fr, wd, sz, ot', tN, tL, tH, tO, tP)) : wpX_forward post (xl, xm, xc, xn, nI o.length, xt, kd, ag, st, le, ll, lc, em, fi, la, fo, pr, fr, wd, sz, ot, tN, tL, tH, tO, tP) (nI i) lo hi := by
  unfold wpX_forward
  dsimp only
  rw [xs_cl (by omega : i < 4096), hk, ha]
  exact ⟨xs_in hi12 (by omega), nm_e (br_f (by decide) (br_t rfl ⟨xs_in hi12 (by omega), xr_emit hO (by omega) d H⟩))⟩
theorem xr_f2 {i : Nat} {lo hi : Int32} (hi12 : i < 12) (hk : kd i = 2) (H : post (xl, xm, xc, xn, xd, xt, kd, ag, st, le, ll, lc, em, fi, la, fo, pr, fr, wd, sz, ot, tN, tL, tH, tO, tP)) : wpX_forward post (xl, xm, xc, xn, xd, xt, kd, ag, st, le, ll, lc, em, fi, la, fo, pr, fr, wd, sz, ot, tN, tL, tH, tO, tP) (nI i) lo hi := by
  unfold wpX_forward
  dsimp only
  rw [xs_cl (by omega : i < 4096), hk]
  exact ⟨xs_in hi12 (by omega), nm_e (br_f (by decide) (br_f (by decide) (br_f (by decide) (br_f (by decide) (br_f (by decide) H)))))⟩
theorem xr_split {a b lo hi h k : Nat} (hh : h + 1 < 64) (h6 : hi ≤ 6) (ha : a < 12) (hb : b < 12) (hw : xf_W wd) {A0 B0 : Nat} (ia : xa_In A0 a em fi la fo (0 * 12 + a)) (ib : xa_In B0 b em fi la fo (0 * 12 + b)) (hlo : lo ≤ k) (hhi : k ≤ hi)
    (hu : ∀ j, lo ≤ j → j ≤ hi → ((xa_An em fi la fo le (0 * 12 + a) (wo_sg (xf_f wd 0) lo (j - lo)) ∧ xa_An em fi la fo le (0 * 12 + b) (wo_sg (xf_f wd 0) j (hi - j))) ↔ j = k))
    (H : post (xl, xm, xc, xn, xd, nI (h + 2), kd, ag, st, le, ll, lc, em, fi, la, fo, pr, fr, wd, sz, ot, upd (upd tN h (nI b)) (h + 1) (nI a), upd (upd tL h (nI k)) (h + 1) (nI lo), upd (upd tH h (nI hi)) (h + 1) (nI k), upd (upd tO h (-1)) (h + 1) (-1), upd (upd tP h (-1)) (h + 1) (-1))) :
    wpX_forwardSplit post (xl, xm, xc, xn, xd, nI h, kd, ag, st, le, ll, lc, em, fi, la, fo, pr, fr, wd, sz, ot, tN, tL, tH, tO, tP) (nI a) (nI b) (nI lo) (nI hi) := by
  unfold wpX_forwardSplit
  dsimp only
  exact xf_cut (s := 0) h6 (by omega) ha hb hw ia ib k hlo hhi hu (xr_push (by omega) _ _ _ _ _ (xr_push hh _ _ _ _ _ H))
theorem xr_f3 {i B lo hi h k : Nat} (hi12 : i < 12) (h1 : 1 ≤ i) (hB : 1 ≤ B) (hBi : B ≤ i - 1) (hk : kd i = 3) (hst : st (i - 1) = nI B) (hh : h + 1 < 64) (h6 : hi ≤ 6) (hw : xf_W wd) {A0 B0 : Nat} (ia : xa_In A0 (B - 1) em fi la fo (0 * 12 + (B - 1))) (ib : xa_In B0 (i - 1) em fi la fo (0 * 12 + (i - 1))) (hlo : lo ≤ k) (hhi : k ≤ hi)
    (hu : ∀ j, lo ≤ j → j ≤ hi → ((xa_An em fi la fo le (0 * 12 + (B - 1)) (wo_sg (xf_f wd 0) lo (j - lo)) ∧ xa_An em fi la fo le (0 * 12 + (i - 1)) (wo_sg (xf_f wd 0) j (hi - j))) ↔ j = k))
    (H : post (xl, xm, xc, xn, xd, nI (h + 2), kd, ag, st, le, ll, lc, em, fi, la, fo, pr, fr, wd, sz, ot, upd (upd tN h (nI (i - 1))) (h + 1) (nI (B - 1)), upd (upd tL h (nI k)) (h + 1) (nI lo), upd (upd tH h (nI hi)) (h + 1) (nI k), upd (upd tO h (-1)) (h + 1) (-1), upd (upd tP h (-1)) (h + 1) (-1))) :
    wpX_forward post (xl, xm, xc, xn, xd, nI h, kd, ag, st, le, ll, lc, em, fi, la, fo, pr, fr, wd, sz, ot, tN, tL, tH, tO, tP) (nI i) (nI lo) (nI hi) := by
  unfold wpX_forward
  dsimp only
  rw [xs_cl (by omega : i < 4096), hk, nu_s1 (n := i) h1, xs_cl (by omega : i - 1 < 4096), hst, nu_s1 (n := B) hB]
  exact ⟨xs_in hi12 (by omega), nm_e (br_f (by decide) (br_f (by decide) (br_t rfl ⟨xs_in (by omega) (by omega), xr_split hh h6 (by omega) (by omega) hw ia ib hlo hhi hu H⟩)))⟩
theorem xr_f4 {i lo hi h k : Nat} (hi12 : i < 12) (h1 : 1 ≤ i) (hk : kd i = 4) (hne : lo < hi) (hh : h + 1 < 64) (h6 : hi ≤ 6) (hw : xf_W wd) {A0 B0 : Nat} (ia : xa_In A0 (i - 1) em fi la fo (0 * 12 + (i - 1))) (ib : xa_In B0 i em fi la fo (0 * 12 + i)) (hlo : lo ≤ k) (hhi : k ≤ hi)
    (hu : ∀ j, lo ≤ j → j ≤ hi → ((xa_An em fi la fo le (0 * 12 + (i - 1)) (wo_sg (xf_f wd 0) lo (j - lo)) ∧ xa_An em fi la fo le (0 * 12 + i) (wo_sg (xf_f wd 0) j (hi - j))) ↔ j = k))
    (H : post (xl, xm, xc, xn, xd, nI (h + 2), kd, ag, st, le, ll, lc, em, fi, la, fo, pr, fr, wd, sz, ot, upd (upd tN h (nI i)) (h + 1) (nI (i - 1)), upd (upd tL h (nI k)) (h + 1) (nI lo), upd (upd tH h (nI hi)) (h + 1) (nI k), upd (upd tO h (-1)) (h + 1) (-1), upd (upd tP h (-1)) (h + 1) (-1))) :
    wpX_forward post (xl, xm, xc, xn, xd, nI h, kd, ag, st, le, ll, lc, em, fi, la, fo, pr, fr, wd, sz, ot, tN, tL, tH, tO, tP) (nI i) (nI lo) (nI hi) := by
  unfold wpX_forward
  dsimp only
  rw [xs_cl (by omega : i < 4096), hk, nu_s1 (n := i) h1]
  exact ⟨xs_in hi12 (by omega), nm_e (br_f (by decide) (br_f (by decide) (br_f (by decide) (br_t rfl (br_f (nI_ge hne (by omega)) (xr_split hh h6 (by omega) hi12 hw ia ib hlo hhi hu H))))))⟩
theorem xr_f4e {i lo : Nat} (hi12 : i < 12) (hk : kd i = 4) (h6 : lo ≤ 6) (H : post (xl, xm, xc, xn, xd, xt, kd, ag, st, le, ll, lc, em, fi, la, fo, pr, fr, wd, sz, ot, tN, tL, tH, tO, tP)) : wpX_forward post (xl, xm, xc, xn, xd, xt, kd, ag, st, le, ll, lc, em, fi, la, fo, pr, fr, wd, sz, ot, tN, tL, tH, tO, tP) (nI i) (nI lo) (nI lo) := by
  unfold wpX_forward
  dsimp only
  rw [xs_cl (by omega : i < 4096), hk]
  exact ⟨xs_in hi12 (by omega), nm_e (br_f (by decide) (br_f (by decide) (br_f (by decide) (br_t rfl (br_t (nI_le (Nat.le_refl _) (by omega)) (br_f (by decide) H))))))⟩
theorem xr_f5 {i B lo hi h : Nat} (hi12 : i < 12) (h1 : 1 ≤ i) (hB : 1 ≤ B) (hBi : B ≤ i - 1) (hk : kd i = 5) (hst : st (i - 1) = nI B) (hh : h < 64) (h6 : hi ≤ 6) (hlo : lo ≤ 6) (hw : xf_W wd) {A0 : Nat} (ia : xa_In A0 (B - 1) em fi la fo (0 * 12 + (B - 1)))
    (H : ∀ d : Nat, (xa_An em fi la fo le (0 * 12 + (B - 1)) (wo_sg (xf_f wd 0) lo (hi - lo)) ∧ d = B - 1) ∨ (¬ xa_An em fi la fo le (0 * 12 + (B - 1)) (wo_sg (xf_f wd 0) lo (hi - lo)) ∧ d = i - 1) →
      post (xl, xm, xc, xn, xd, nI (h + 1), kd, ag, st, le, ll, lc, em, fi, la, fo, pr, fr, wd, sz, ot, upd tN h (nI d), upd tL h (nI lo), upd tH h (nI hi), upd tO h (-1), upd tP h (-1))) :
    wpX_forward post (xl, xm, xc, xn, xd, nI h, kd, ag, st, le, ll, lc, em, fi, la, fo, pr, fr, wd, sz, ot, tN, tL, tH, tO, tP) (nI i) (nI lo) (nI hi) := by
  unfold wpX_forward
  dsimp only
  unfold wX_forward_94 wX_forward_132
  rw [xs_cl (by omega : i < 4096), hk, nu_s1 (n := i) h1, xs_cl (by omega : i - 1 < 4096), hst]
  refine ⟨xs_in hi12 (by omega), nm_e (br_f (by decide) (br_f (by decide) (br_f (by decide) (br_f (by decide) (br_t rfl ⟨xs_in (by omega) (by omega), nm_r (nu_s1 hB) ?_⟩)))))⟩
  refine xf_acc (s := 0) h6 (by omega) (by omega) hlo hw ia ?_ ?_
  · intro hx
    exact br_f (by decide) (xr_push hh _ _ _ _ _ (H (B - 1) (Or.inl ⟨hx, rfl⟩)))
  · intro hx
    exact br_t rfl (xr_push hh _ _ _ _ _ (H (i - 1) (Or.inr ⟨hx, rfl⟩)))
theorem xr_pop {n t h i lo hi : Nat} (ht : t < 1000) (hh : h < 64) (e1 : tN h = nI i) (e2 : tL h = nI lo) (e3 : tH h = nI hi)
    (H : wpX_forward (fun u => match u with | (xl, xm, xc, xn, xd, xt, kd, ag, st, le, ll, lc, em, fi, la, fo, pr, fr, wd, sz, ot, tN, tL, tH, tO, tP) => (∀ x1 : Int32, x1 = nI t + 1 → wX_runForward_31 post n x1 xl xm xc xn xd xt kd ag st le ll lc em fi la fo pr fr wd sz ot tN tL tH tO tP)) (xl, xm, xc, xn, xd, nI h, kd, ag, st, le, ll, lc, em, fi, la, fo, pr, fr, wd, sz, ot, tN, tL, tH, tO, tP) (nI i) (nI lo) (nI hi)) : wX_runForward_31 post (n + 1) (nI t) xl xm xc xn xd (nI (h + 1)) kd ag st le ll lc em fi la fo pr fr wd sz ot tN tL tH tO tP := by
  refine br_f (nI_ge (b := 1000) ht (by omega)) (br_f (nI_nle (by omega) (by omega)) (nm_r (nI_pred h) ?_))
  have iv : vp_in (nI h) 64 := xs_in hh (by omega)
  refine ⟨iv, iv, iv, ?_⟩
  rw [xs_cl (by omega : h < 4096), e1, e2, e3]
  exact H
theorem xr_end {n t : Nat} (ht : t ≤ 1000) (H : post (xl, xm, xc, xn, xd, nI 0, kd, ag, st, le, ll, lc, em, fi, la, fo, pr, fr, wd, sz, ot, tN, tL, tH, tO, tP)) : wX_runForward_31 post (n + 1) (nI t) xl xm xc xn xd (nI 0) kd ag st le ll lc em fi la fo pr fr wd sz ot tN tL tH tO tP := by
  rcases Nat.lt_or_ge t 1000 with h | h
  · exact br_f (nI_ge (b := 1000) h (by omega)) (br_t (by decide) H)
  · exact br_t (nI_le (a := 1000) h (by omega)) H
end XR
end
section
section YR
def yr_O (N : Nat) (o : List Nat) (yo : Int32) : Prop := o.length ≤ N → yo = nI (wo_cd o)
def yr_F (h : Nat) (yN yV yS yN' yV' yS' : Nat → Int32) : Prop := ∀ j, j < h → yN' j = yN j ∧ yV' j = yV j ∧ yS' j = yS j
theorem yr_Fr {h : Nat} {yN yV yS : Nat → Int32} : yr_F h yN yV yS yN yV yS := fun _ _ => ⟨rfl, rfl, rfl⟩
theorem yr_Ft {h : Nat} {yN yV yS yN' yV' yS' yN2 yV2 yS2 : Nat → Int32} (a : yr_F h yN yV yS yN' yV' yS') (b : yr_F h yN' yV' yS' yN2 yV2 yS2) : yr_F h yN yV yS yN2 yV2 yS2 := by
  intro j hj
  have ⟨a1, a2, a3⟩ := a j hj
  have ⟨b1, b2, b3⟩ := b j hj
  exact ⟨b1.trans a1, b2.trans a2, b3.trans a3⟩
theorem yr_Fl {h h' : Nat} {yN yV yS yN' yV' yS' : Nat → Int32} (a : yr_F h' yN yV yS yN' yV' yS') (hl : h ≤ h') : yr_F h yN yV yS yN' yV' yS' := fun j hj => a j (by omega)
theorem yr_Fu {h k : Nat} (hk : h ≤ k) {yN yV yS : Nat → Int32} {p0 p1 p2 : Int32} : yr_F h yN yV yS (upd yN k p0) (upd yV k p1) (upd yS k p2) :=
  fun j hj => ⟨nu_un (by omega), nu_un (by omega), nu_un (by omega)⟩
variable {yz ym yw yc yt yd yo : Int32} {tb yk ya bf yN yV yS : Nat → Int32} {post : SY → Prop} {qost : Int32 → SY → Prop} {rost : Int32 → Prop}
theorem yr_emL {m : Nat} (hm : m ≤ 6) (x : Int32) : ∀ (d i n a : Nat), i + d = m → d < n → post (yz, ym, yw, yc, yt, yd, nI (a * 3 ^ d) + x, tb, yk, ya, bf, yN, yV, yS) → wY_emit_30 post x (nI m) yz ym yw yc yt yd tb yk ya bf yN yV yS n (nI i) (nI a) := by
  intro d
  induction d with
  | zero =>
    intro i n a hi hn H
    obtain ⟨n, rfl⟩ : ∃ m, n = m + 1 := ⟨n - 1, by omega⟩
    obtain rfl : i = m := by omega
    rw [Nat.pow_zero, Nat.mul_one] at H
    exact br_t (nI_le (Nat.le_refl _) (by omega)) (nm_e H)
  | succ d ih =>
    intro i n a hi hn H
    obtain ⟨n, rfl⟩ : ∃ m, n = m + 1 := ⟨n - 1, by omega⟩
    refine br_f (nI_ge (by omega) (by omega)) (nm_r (nu_m3 a) (nm_r (nI_1 i) (ih (i + 1) n (a * 3) (by omega) (by omega) ?_)))
    rw [Nat.mul_assoc, Nat.mul_comm 3, ← Nat.pow_succ]
    exact H
theorem yr_emit {N : Nat} (hN : N ≤ 6) {o w : List Nat} (hO : yr_O N o yo) (hl : o.length < 50000) (hv : wo_V w) (hw : w.length ≤ 6) (H : ∀ yo' : Int32, yr_O N (o ++ w) yo' → post (nI N, ym, yw, yc, yt, nI (o ++ w).length, yo', tb, yk, ya, bf, yN, yV, yS)) :
    wpY_emit post (nI N, ym, yw, yc, yt, nI o.length, yo, tb, yk, ya, bf, yN, yV, yS) (nI (wo_cd w)) := by
  unfold wpY_emit
  dsimp only
  refine ys_len hv hw (nm_r (e' := nI (o ++ w).length) (by rw [nI_add, List.length_append]) ?_)
  rw [List.length_append] at H ⊢
  rcases Nat.lt_or_ge N (o.length + w.length) with h | h
  · refine br_f (nI_ge h (by omega)) (H yo fun h' => ?_)
    rw [List.length_append] at h'
    omega
  · refine br_t (nI_le h (by omega)) ⟨w.length + 1, ?_⟩
    rw [hO (by omega)]
    refine yr_emL hw _ w.length 0 _ (wo_cd o) (by omega) (by omega) (H _ fun _ => ?_)
    rw [nI_add, wo_app]
theorem yr_push {h : Nat} (hh : h < 64) (p0 p1 p2 : Int32) (H : post (yz, ym, yw, yc, nI (h + 1), yd, yo, tb, yk, ya, bf, upd yN h p0, upd yV h p1, upd yS h p2)) : wpY_push post (yz, ym, yw, yc, nI h, yd, yo, tb, yk, ya, bf, yN, yV, yS) p0 p1 p2 := by
  unfold wpY_push
  dsimp only
  rw [xs_cl (by omega : h < 4096)]
  have iv : vp_in (nI h) 64 := xs_in hh (by omega)
  exact br_f (nI_pos (by omega)) (br_t (nI_lt (b := 64) hh (by omega)) ⟨iv, nm_e ⟨iv, nm_e ⟨iv, nm_e (nm_r (nI_1 h) H)⟩⟩⟩)
/-! forward, one task: behind the pop -/
section FW
variable {J29 : Int32 → Int32 → Int32 → Int32 → Int32 → Int32 → Int32 → Int32 → (Nat → Int32) → (Nat → Int32) → (Nat → Int32) → (Nat → Int32) → (Nat → Int32) → (Nat → Int32) → (Nat → Int32) → Prop} {x2 x4 x5 x6 : Int32} {i : Nat}
theorem yr_232 (hi : i < 12) (n5 : ¬ yk i = 5) (H : J29 (x2 + 1) yz ym yw yc yt yd yo tb yk ya bf yN yV yS) : wY_forward_232 post J29 x2 (nI i) x4 x5 x6 yz ym yw yc yt yd yo tb yk ya bf yN yV yS := by
  unfold wY_forward_232
  rw [xs_cl (by omega : i < 4096)]
  exact ⟨xs_in hi (by omega), br_f n5 (nm_e H)⟩
theorem yr_178 (hi : i < 12) (n4 : ¬ yk i = 4) (H : wY_forward_232 post J29 x2 (nI i) x4 x5 x6 yz ym yw yc yt yd yo tb yk ya bf yN yV yS) : wY_forward_178 post J29 x2 (nI i) x4 x5 x6 yz ym yw yc yt yd yo tb yk ya bf yN yV yS := by
  unfold wY_forward_178
  rw [xs_cl (by omega : i < 4096)]
  exact ⟨xs_in hi (by omega), br_f n4 H⟩
theorem yr_127 (hi : i < 12) (n3 : ¬ yk i = 3) (H : wY_forward_178 post J29 x2 (nI i) x4 x5 x6 yz ym yw yc yt yd yo tb yk ya bf yN yV yS) : wY_forward_127 post J29 x2 (nI i) x4 x5 x6 yz ym yw yc yt yd yo tb yk ya bf yN yV yS := by
  unfold wY_forward_127
  rw [xs_cl (by omega : i < 4096)]
  exact ⟨xs_in hi (by omega), br_f n3 H⟩
theorem yr_105 (hi : i < 12) (n1 : ¬ yk i = 1) (H : wY_forward_127 post J29 x2 (nI i) x4 x5 x6 yz ym yw yc yt yd yo tb yk ya bf yN yV yS) : wY_forward_105 post J29 x2 (nI i) x4 x5 x6 yz ym yw yc yt yd yo tb yk ya bf yN yV yS := by
  unfold wY_forward_105
  rw [xs_cl (by omega : i < 4096)]
  exact ⟨xs_in hi (by omega), br_f n1 H⟩
end FW
theorem yr_pop {sn : Nat → Nat} {n t h i : Nat} {x4 : Int32} (ht : t < 2000) (hh : h < 64) (hi : i < 12) (hst : ∀ j, j < i → ys_St yk sn j) (e1 : yN h = nI i) (e2 : yS h = x4)
    (H : ∀ x6 : Int32, (1 ≤ i → x6 = nI (sn (i - 1)) - 1) → ((yk i = 0 → (wpY_emit (fun u => match u with | (yz, ym, yw, yc, yt, yd, yo, tb, yk, ya, bf, yN, yV, yS) => (wY_forward_105 post (wY_forward_29 post n) (nI t) (nI i) x4 (nI i - 1) x6 yz ym yw yc yt yd yo tb yk ya bf yN yV yS)) (yz, ym, yw, yc, nI h, yd, yo, tb, yk, ya, bf, yN, yV, yS) x4)) ∧ (¬ yk i = 0 → (wY_forward_105 post (wY_forward_29 post n) (nI t) (nI i) x4 (nI i - 1) x6 yz ym yw yc (nI h) yd yo tb yk ya bf yN yV yS)))) :
    wY_forward_29 post (n + 1) (nI t) yz ym yw yc (nI (h + 1)) yd yo tb yk ya bf yN yV yS := by
  refine br_f (nI_ge (b := 2000) ht (by omega)) (br_t (by rw [nu_lt0 (by omega)]; omega) (nm_r (nI_pred h) ?_))
  have iv : vp_in (nI h) 64 := xs_in hh (by omega)
  refine ⟨iv, ?_⟩
  rw [xs_cl (by omega : h < 4096), e1, e2]
  refine nm_e ⟨iv, nm_e (nm_e (ys_startP hi hst fun r hr => nm_e ⟨xs_in hi (by omega), ?_⟩))⟩
  rw [xs_cl (by omega : i < 4096)]
  exact H _ fun h => by rw [hr h]
theorem yr_end {n t : Nat} (ht : t ≤ 2000) (H : post (yz, ym, yw, yc, nI 0, yd, yo, tb, yk, ya, bf, yN, yV, yS)) : wY_forward_29 post (n + 1) (nI t) yz ym yw yc (nI 0) yd yo tb yk ya bf yN yV yS := by
  rcases Nat.lt_or_ge t 2000 with h | h
  · exact br_f (nI_ge (b := 2000) h (by omega)) (br_f (by decide) H)
  · exact br_t (nI_le (a := 2000) h (by omega)) H
section K
variable {sn : Nat → Nat} {n t h i N : Nat}
theorem yr_f0 (ht : t < 2000) (hh : h < 64) (hi : i < 12) (hst : ∀ j, j < i → ys_St yk sn j) {w o : List Nat} (e1 : yN h = nI i) (e2 : yS h = nI (wo_cd w)) (hk : yk i = 0) (hN : N ≤ 6) (hO : yr_O N o yo) (hl : o.length < 50000) (hv : wo_V w) (hw : w.length ≤ 6)
    (H : ∀ yo' : Int32, yr_O N (o ++ w) yo' → wY_forward_29 post n (nI (t + 1)) (nI N) ym yw yc (nI h) (nI (o ++ w).length) yo' tb yk ya bf yN yV yS) : wY_forward_29 post (n + 1) (nI t) (nI N) ym yw yc (nI (h + 1)) (nI o.length) yo tb yk ya bf yN yV yS := by
  refine yr_pop ht hh hi hst e1 e2 fun x6 _ => br_t hk (yr_emit hN hO hl hv hw fun yo' ho => ?_)
  have H := H yo' ho
  rw [← nI_1] at H
  exact yr_105 hi (by rw [hk]; decide) (yr_127 hi (by rw [hk]; decide) (yr_178 hi (by rw [hk]; decide) (yr_232 hi (by rw [hk]; decide) H)))
theorem yr_f1 (ht : t < 2000) (hh : h < 64) (hi : i < 12) (hst : ∀ j, j < i → ys_St yk sn j) {x4 : Int32} {d : Nat} {o : List Nat} (e1 : yN h = nI i) (e2 : yS h = x4) (hk : yk i = 1) (ha : ya i = nI d) (hd : d < 3) (hN : N ≤ 6) (hO : yr_O N o yo) (hl : o.length < 50000)
    (H : ∀ yo' : Int32, yr_O N (o ++ [d]) yo' → wY_forward_29 post n (nI (t + 1)) (nI N) ym yw yc (nI h) (nI (o ++ [d]).length) yo' tb yk ya bf yN yV yS) : wY_forward_29 post (n + 1) (nI t) (nI N) ym yw yc (nI (h + 1)) (nI o.length) yo tb yk ya bf yN yV yS := by
  refine yr_pop ht hh hi hst e1 e2 fun x6 _ => br_f (by rw [hk]; decide) ?_
  unfold wY_forward_105
  rw [xs_cl (by omega : i < 4096), ha]
  have e : nI d + 1 = nI (wo_cd [d]) := by rw [nI_1]; simp [wo_cd]
  rw [e]
  refine ⟨xs_in hi (by omega), br_t hk ⟨xs_in hi (by omega), yr_emit hN hO hl (wo_Vc.mpr ⟨hd, wo_V0⟩) (by simp) fun yo' ho => ?_⟩⟩
  have H := H yo' ho
  rw [← nI_1] at H
  exact yr_127 hi (by rw [hk]; decide) (yr_178 hi (by rw [hk]; decide) (yr_232 hi (by rw [hk]; decide) H))
theorem yr_f2 (ht : t < 2000) (hh : h < 64) (hi : i < 12) (hst : ∀ j, j < i → ys_St yk sn j) {x4 : Int32} (e1 : yN h = nI i) (e2 : yS h = x4) (hk : yk i = 2)
    (H : wY_forward_29 post n (nI (t + 1)) yz ym yw yc (nI h) yd yo tb yk ya bf yN yV yS) : wY_forward_29 post (n + 1) (nI t) yz ym yw yc (nI (h + 1)) yd yo tb yk ya bf yN yV yS := by
  refine yr_pop ht hh hi hst e1 e2 fun x6 _ => br_f (by rw [hk]; decide) ?_
  rw [← nI_1] at H
  exact yr_105 hi (by rw [hk]; decide) (yr_127 hi (by rw [hk]; decide) (yr_178 hi (by rw [hk]; decide) (yr_232 hi (by rw [hk]; decide) H)))
theorem yr_f3 (ht : t < 2000) (hh : h + 1 < 64) (hi : i < 12) (hst : ∀ j, j < i → ys_St yk sn j) (h01 : ys_01 tb) {w : List Nat} (e1 : yN h = nI i) (e2 : yS h = nI (wo_cd w)) (hk : yk i = 3) (h1 : 1 ≤ i) (hB : 1 ≤ sn (i - 1)) (hBi : sn (i - 1) ≤ i - 1) (hv : wo_V w) (hw : w.length ≤ 6) (k : Nat) (hkl : k ≤ w.length)
    (hu : ∀ j, j ≤ w.length → ((ys_T tb 0 (sn (i - 1) - 1) (w.take j) ∧ ys_T tb 0 (i - 1) (w.drop j)) ↔ j = k))
    (H : wY_forward_29 post n (nI (t + 1)) yz ym yw yc (nI (h + 2)) yd yo tb yk ya bf (upd (upd yN h (nI (i - 1))) (h + 1) (nI (sn (i - 1) - 1))) (upd (upd yV h 0) (h + 1) 0) (upd (upd yS h (nI (wo_cd (w.drop k)))) (h + 1) (nI (wo_cd (w.take k))))) :
    wY_forward_29 post (n + 1) (nI t) yz ym yw yc (nI (h + 1)) yd yo tb yk ya bf yN yV yS := by
  refine yr_pop ht (by omega) hi hst e1 e2 fun x6 hx => br_f (by rw [hk]; decide) (yr_105 hi (by rw [hk]; decide) ?_)
  unfold wY_forward_127
  rw [xs_cl (by omega : i < 4096), hx h1, nu_s1 (n := i) h1, nu_s1 (n := sn (i - 1)) hB]
  refine ⟨xs_in hi (by omega), br_t hk (yw_first (s := 0) h01 (by omega) (by omega) (by omega) hv hw k hkl hu (yw_rest hv hw k hkl (yr_push (by omega) _ _ _ (yr_push hh _ _ _ ?_))))⟩
  rw [← nI_1] at H
  exact yr_178 hi (by rw [hk]; decide) (yr_232 hi (by rw [hk]; decide) H)
theorem yr_f4 (ht : t < 2000) (hh : h + 1 < 64) (hi : i < 12) (hst : ∀ j, j < i → ys_St yk sn j) (h01 : ys_01 tb) {w : List Nat} (e1 : yN h = nI i) (e2 : yS h = nI (wo_cd w)) (hk : yk i = 4) (h1 : 1 ≤ i) (hv : wo_V w) (hw : w.length ≤ 6) (hne : w ≠ []) (k : Nat) (hkl : k ≤ w.length)
    (hu : ∀ j, j ≤ w.length → ((ys_T tb 0 (i - 1) (w.take j) ∧ ys_T tb 0 i (w.drop j)) ↔ j = k))
    (H : wY_forward_29 post n (nI (t + 1)) yz ym yw yc (nI (h + 2)) yd yo tb yk ya bf (upd (upd yN h (nI i)) (h + 1) (nI (i - 1))) (upd (upd yV h 0) (h + 1) 0) (upd (upd yS h (nI (wo_cd (w.drop k)))) (h + 1) (nI (wo_cd (w.take k))))) :
    wY_forward_29 post (n + 1) (nI t) yz ym yw yc (nI (h + 1)) yd yo tb yk ya bf yN yV yS := by
  refine yr_pop ht (by omega) hi hst e1 e2 fun x6 hx => br_f (by rw [hk]; decide) (yr_105 hi (by rw [hk]; decide) (yr_127 hi (by rw [hk]; decide) ?_))
  unfold wY_forward_178
  rw [xs_cl (by omega : i < 4096), nu_s1 (n := i) h1]
  have h6 := yw_c6 hv hw
  have hc : wo_cd w ≠ 0 := fun h => hne (wo_z.mp h)
  refine ⟨xs_in hi (by omega), br_t hk (br_f (by rw [nu_le0 (by omega)]; exact hc) (yw_first (s := 0) h01 (by omega) (by omega) (by omega) hv hw k hkl hu (yw_rest hv hw k hkl (yr_push (by omega) _ _ _ (yr_push hh _ _ _ ?_)))))⟩
  rw [← nI_1] at H
  exact yr_232 hi (by rw [hk]; decide) H
theorem yr_f4e (ht : t < 2000) (hh : h < 64) (hi : i < 12) (hst : ∀ j, j < i → ys_St yk sn j) (e1 : yN h = nI i) (e2 : yS h = nI (wo_cd [])) (hk : yk i = 4)
    (H : wY_forward_29 post n (nI (t + 1)) yz ym yw yc (nI h) yd yo tb yk ya bf yN yV yS) : wY_forward_29 post (n + 1) (nI t) yz ym yw yc (nI (h + 1)) yd yo tb yk ya bf yN yV yS := by
  refine yr_pop ht (by omega) hi hst e1 e2 fun x6 hx => br_f (by rw [hk]; decide) (yr_105 hi (by rw [hk]; decide) (yr_127 hi (by rw [hk]; decide) ?_))
  unfold wY_forward_178
  rw [xs_cl (by omega : i < 4096)]
  rw [← nI_1] at H
  exact ⟨xs_in hi (by omega), br_t hk (br_t (by decide) (yr_232 hi (by rw [hk]; decide) H))⟩
theorem yr_f5 (ht : t < 2000) (hh : h < 64) (hi : i < 12) (hst : ∀ j, j < i → ys_St yk sn j) (h01 : ys_01 tb) {w : List Nat} (e1 : yN h = nI i) (e2 : yS h = nI (wo_cd w)) (hk : yk i = 5) (h1 : 1 ≤ i) (hB : 1 ≤ sn (i - 1)) (hBi : sn (i - 1) ≤ i - 1) (hv : wo_V w) (hw : w.length ≤ 6)
    (H : ∀ d : Nat, (ys_T tb 0 (sn (i - 1) - 1) w ∧ d = sn (i - 1) - 1) ∨ (¬ ys_T tb 0 (sn (i - 1) - 1) w ∧ d = i - 1) → wY_forward_29 post n (nI (t + 1)) yz ym yw yc (nI (h + 1)) yd yo tb yk ya bf (upd yN h (nI d)) (upd yV h 0) (upd yS h (nI (wo_cd w)))) :
    wY_forward_29 post (n + 1) (nI t) yz ym yw yc (nI (h + 1)) yd yo tb yk ya bf yN yV yS := by
  refine yr_pop ht (by omega) hi hst e1 e2 fun x6 hx => br_f (by rw [hk]; decide) (yr_105 hi (by rw [hk]; decide) (yr_127 hi (by rw [hk]; decide) (yr_178 hi (by rw [hk]; decide) ?_)))
  unfold wY_forward_232
  rw [xs_cl (by omega : i < 4096), hx h1, nu_s1 (n := i) h1, nu_s1 (n := sn (i - 1)) hB]
  rw [← nI_1] at H
  refine ⟨xs_in hi (by omega), br_t hk (ys_has (s := 0) h01 (by omega) (by omega) hv hw ?_ ?_)⟩
  · intro hx
    exact br_f (by decide) (yr_push hh _ _ _ (nm_e (H _ (Or.inl ⟨hx, rfl⟩))))
  · intro hx
    exact br_t rfl (yr_push hh _ _ _ (nm_e (H _ (Or.inr ⟨hx, rfl⟩))))
end K
end YR
end
section
section FW
/-! X's loop from a task on top of the stack to what lies below it: output o, c turns -/
def fw_X (N M C : Nat) (xn : Int32) (kd ag st le ll lc em fi la fo pr fr wd sz : Nat → Int32) (i lo hi : Nat) (o : List Nat) (c : Nat) : Prop :=
  ∀ (post : SX → Prop) (n t h : Nat) (o0 : List Nat) (ot tN tL tH tO tP : Nat → Int32), h + i ≤ 11 → t + c ≤ 1000 → o0.length ≤ 6 * t → tN h = nI i → tL h = nI lo → tH h = nI hi → xr_O o0 ot →
    (∀ ot' tN' tL' tH' tO' tP' : Nat → Int32, xr_F h tN tL tH tO tP tN' tL' tH' tO' tP' → xr_O (o0 ++ o) ot' → wX_runForward_31 post n (nI (t + c)) (nI N) (nI M) (nI C) xn (nI (o0 ++ o).length) (nI h) kd ag st le ll lc em fi la fo pr fr wd sz ot' tN' tL' tH' tO' tP') →
    wX_runForward_31 post (n + c) (nI t) (nI N) (nI M) (nI C) xn (nI o0.length) (nI (h + 1)) kd ag st le ll lc em fi la fo pr fr wd sz ot tN tL tH tO tP
def fw_Y (N M C : Nat) (tb yk ya bf : Nat → Int32) (i : Nat) (w o : List Nat) (c : Nat) : Prop :=
  ∀ (post : SY → Prop) (n t h : Nat) (o0 : List Nat) (yo : Int32) (yN yV yS : Nat → Int32), h + i ≤ 11 → t + c ≤ 1000 → o0.length ≤ 6 * t → yN h = nI i → yS h = nI (wo_cd w) → yr_O N o0 yo →
    (∀ (yo' : Int32) (yN' yV' yS' : Nat → Int32), yr_F h yN yV yS yN' yV' yS' → yr_O N (o0 ++ o) yo' → wY_forward_29 post n (nI (t + c)) (nI N) (nI M) (nI (wo_ws N)) (nI C) (nI h) (nI (o0 ++ o).length) yo' tb yk ya bf yN' yV' yS') →
    wY_forward_29 post (n + c) (nI t) (nI N) (nI M) (nI (wo_ws N)) (nI C) (nI (h + 1)) (nI o0.length) yo tb yk ya bf yN yV yS
section XQ
variable {N M C : Nat} {xn : Int32} {kd ag st le ll lc em fi la fo pr fr wd sz : Nat → Int32}
theorem fw_seqX {i a b lo k hi c1 c2 : Nat} {o1 o2 : List Nat} (ha : a + 1 ≤ i) (hb : b ≤ i) (l1 : o1.length ≤ 6 * c1)
    (A : fw_X N M C xn kd ag st le ll lc em fi la fo pr fr wd sz a lo k o1 c1) (B : fw_X N M C xn kd ag st le ll lc em fi la fo pr fr wd sz b k hi o2 c2)
    (step : ∀ (post : SX → Prop) (xd : Int32) (h : Nat) (ot tN tL tH tO tP : Nat → Int32), h + 1 < 64 →
      post (nI N, nI M, nI C, xn, xd, nI (h + 2), kd, ag, st, le, ll, lc, em, fi, la, fo, pr, fr, wd, sz, ot, upd (upd tN h (nI b)) (h + 1) (nI a), upd (upd tL h (nI k)) (h + 1) (nI lo), upd (upd tH h (nI hi)) (h + 1) (nI k), upd (upd tO h (-1)) (h + 1) (-1), upd (upd tP h (-1)) (h + 1) (-1)) →
      wpX_forward post (nI N, nI M, nI C, xn, xd, nI h, kd, ag, st, le, ll, lc, em, fi, la, fo, pr, fr, wd, sz, ot, tN, tL, tH, tO, tP) (nI i) (nI lo) (nI hi)) : fw_X N M C xn kd ag st le ll lc em fi la fo pr fr wd sz i lo hi (o1 ++ o2) (1 + c1 + c2) := by
  intro post n t h o0 ot tN tL tH tO tP hh ht hl e1 e2 e3 hO H
  rw [show n + (1 + c1 + c2) = (n + c2 + c1) + 1 by omega]
  refine xr_pop (by omega) (by omega) e1 e2 e3 (step _ _ h ot tN tL tH tO tP (by omega) (nm_r (nI_1 t) ?_))
  refine A post (n + c2) (t + 1) (h + 1) o0 _ _ _ _ _ _ (by omega) (by omega) (by omega) nu_us nu_us nu_us hO ?_
  intro ot1 tN1 tL1 tH1 tO1 tP1 F1 hO1
  have f := F1 h (by omega)
  refine B post n (t + 1 + c1) h (o0 ++ o1) ot1 tN1 tL1 tH1 tO1 tP1 (by omega) (by omega) (by rw [List.length_append]; omega) ?_ ?_ ?_ hO1 ?_
  · rw [f.1, nu_un (by omega), nu_us]
  · rw [f.2.1, nu_un (by omega), nu_us]
  · rw [f.2.2.1, nu_un (by omega), nu_us]
  · intro ot2 tN2 tL2 tH2 tO2 tP2 F2 hO2
    rw [List.append_assoc] at hO2 ⊢
    rw [show t + 1 + c1 + c2 = t + (1 + c1 + c2) by omega]
    exact H ot2 tN2 tL2 tH2 tO2 tP2 (xr_Ft (xr_Ft (xr_Ft (xr_Fu (Nat.le_refl h)) (xr_Fu (Nat.le_succ h))) (xr_Fl F1 (Nat.le_succ h))) F2) hO2
theorem fw_oneX {i d lo hi c1 : Nat} {o1 : List Nat} (hd : d + 1 ≤ i)
    (A : fw_X N M C xn kd ag st le ll lc em fi la fo pr fr wd sz d lo hi o1 c1)
    (step : ∀ (post : SX → Prop) (xd : Int32) (h : Nat) (ot tN tL tH tO tP : Nat → Int32), h < 64 →
      post (nI N, nI M, nI C, xn, xd, nI (h + 1), kd, ag, st, le, ll, lc, em, fi, la, fo, pr, fr, wd, sz, ot, upd tN h (nI d), upd tL h (nI lo), upd tH h (nI hi), upd tO h (-1), upd tP h (-1)) →
      wpX_forward post (nI N, nI M, nI C, xn, xd, nI h, kd, ag, st, le, ll, lc, em, fi, la, fo, pr, fr, wd, sz, ot, tN, tL, tH, tO, tP) (nI i) (nI lo) (nI hi)) : fw_X N M C xn kd ag st le ll lc em fi la fo pr fr wd sz i lo hi o1 (1 + c1) := by
  intro post n t h o0 ot tN tL tH tO tP hh ht hl e1 e2 e3 hO H
  rw [show n + (1 + c1) = (n + c1) + 1 by omega]
  refine xr_pop (by omega) (by omega) e1 e2 e3 (step _ _ h ot tN tL tH tO tP (by omega) (nm_r (nI_1 t) ?_))
  refine A post n (t + 1) h o0 _ _ _ _ _ _ (by omega) (by omega) (by omega) nu_us nu_us nu_us hO ?_
  intro ot1 tN1 tL1 tH1 tO1 tP1 F1 hO1
  rw [show t + 1 + c1 = t + (1 + c1) by omega]
  exact H ot1 tN1 tL1 tH1 tO1 tP1 (xr_Ft (xr_Fu (Nat.le_refl h)) F1) hO1
theorem fw_leafX {i lo hi : Nat} {o1 : List Nat}
    (step : ∀ (post : SX → Prop) (xt : Int32) (o : List Nat) (ot tN tL tH tO tP : Nat → Int32), o.length < 40000 → xr_O o ot →
      (∀ ot' : Nat → Int32, xr_O (o ++ o1) ot' → post (nI N, nI M, nI C, xn, nI (o ++ o1).length, xt, kd, ag, st, le, ll, lc, em, fi, la, fo, pr, fr, wd, sz, ot', tN, tL, tH, tO, tP)) →
      wpX_forward post (nI N, nI M, nI C, xn, nI o.length, xt, kd, ag, st, le, ll, lc, em, fi, la, fo, pr, fr, wd, sz, ot, tN, tL, tH, tO, tP) (nI i) (nI lo) (nI hi)) : fw_X N M C xn kd ag st le ll lc em fi la fo pr fr wd sz i lo hi o1 1 := by
  intro post n t h o0 ot tN tL tH tO tP hh ht hl e1 e2 e3 hO H
  refine xr_pop (by omega) (by omega) e1 e2 e3 (step _ _ o0 ot tN tL tH tO tP (by omega) hO fun ot' hO' => nm_r (nI_1 t) ?_)
  exact H ot' tN tL tH tO tP xr_Fr hO'
end XQ
section YQ
variable {N M C : Nat} {tb yk ya bf : Nat → Int32}
theorem fw_seqY {i a b c1 c2 : Nat} {w p q o1 o2 : List Nat} (ha : a + 1 ≤ i) (hb : b ≤ i) (l1 : o1.length ≤ 6 * c1)
    (A : fw_Y N M C tb yk ya bf a p o1 c1) (B : fw_Y N M C tb yk ya bf b q o2 c2)
    (step : ∀ (post : SY → Prop) (n t h : Nat) (yd yo : Int32) (yN yV yS : Nat → Int32), t < 2000 → h + 1 < 64 → yN h = nI i → yS h = nI (wo_cd w) →
      wY_forward_29 post n (nI (t + 1)) (nI N) (nI M) (nI (wo_ws N)) (nI C) (nI (h + 2)) yd yo tb yk ya bf (upd (upd yN h (nI b)) (h + 1) (nI a)) (upd (upd yV h 0) (h + 1) 0) (upd (upd yS h (nI (wo_cd q))) (h + 1) (nI (wo_cd p))) →
      wY_forward_29 post (n + 1) (nI t) (nI N) (nI M) (nI (wo_ws N)) (nI C) (nI (h + 1)) yd yo tb yk ya bf yN yV yS) : fw_Y N M C tb yk ya bf i w (o1 ++ o2) (1 + c1 + c2) := by
  intro post n t h o0 yo yN yV yS hh ht hl e1 e2 hO H
  rw [show n + (1 + c1 + c2) = (n + c2 + c1) + 1 by omega]
  refine step _ _ t h _ _ yN yV yS (by omega) (by omega) e1 e2 ?_
  refine A post (n + c2) (t + 1) (h + 1) o0 _ _ _ _ (by omega) (by omega) (by omega) nu_us nu_us hO ?_
  intro yo1 yN1 yV1 yS1 F1 hO1
  have f := F1 h (by omega)
  refine B post n (t + 1 + c1) h (o0 ++ o1) yo1 yN1 yV1 yS1 (by omega) (by omega) (by rw [List.length_append]; omega) ?_ ?_ hO1 ?_
  · rw [f.1, nu_un (by omega), nu_us]
  · rw [f.2.2, nu_un (by omega), nu_us]
  · intro yo2 yN2 yV2 yS2 F2 hO2
    rw [List.append_assoc] at hO2 ⊢
    rw [show t + 1 + c1 + c2 = t + (1 + c1 + c2) by omega]
    exact H yo2 yN2 yV2 yS2 (yr_Ft (yr_Ft (yr_Ft (yr_Fu (Nat.le_refl h)) (yr_Fu (Nat.le_succ h))) (yr_Fl F1 (Nat.le_succ h))) F2) hO2
theorem fw_oneY {i d c1 : Nat} {w o1 : List Nat} (hd : d + 1 ≤ i) (A : fw_Y N M C tb yk ya bf d w o1 c1)
    (step : ∀ (post : SY → Prop) (n t h : Nat) (yd yo : Int32) (yN yV yS : Nat → Int32), t < 2000 → h < 64 → yN h = nI i → yS h = nI (wo_cd w) →
      wY_forward_29 post n (nI (t + 1)) (nI N) (nI M) (nI (wo_ws N)) (nI C) (nI (h + 1)) yd yo tb yk ya bf (upd yN h (nI d)) (upd yV h 0) (upd yS h (nI (wo_cd w))) →
      wY_forward_29 post (n + 1) (nI t) (nI N) (nI M) (nI (wo_ws N)) (nI C) (nI (h + 1)) yd yo tb yk ya bf yN yV yS) : fw_Y N M C tb yk ya bf i w o1 (1 + c1) := by
  intro post n t h o0 yo yN yV yS hh ht hl e1 e2 hO H
  rw [show n + (1 + c1) = (n + c1) + 1 by omega]
  refine step _ _ t h _ _ yN yV yS (by omega) (by omega) e1 e2 ?_
  refine A post n (t + 1) h o0 _ _ _ _ (by omega) (by omega) (by omega) nu_us nu_us hO ?_
  intro yo1 yN1 yV1 yS1 F1 hO1
  rw [show t + 1 + c1 = t + (1 + c1) by omega]
  exact H yo1 yN1 yV1 yS1 (yr_Ft (yr_Fu (Nat.le_refl h)) F1) hO1
theorem fw_leafY {i : Nat} {w o1 : List Nat}
    (step : ∀ (post : SY → Prop) (n t h : Nat) (o : List Nat) (yo : Int32) (yN yV yS : Nat → Int32), t < 2000 → h < 64 → o.length < 50000 → yN h = nI i → yS h = nI (wo_cd w) → yr_O N o yo →
      (∀ yo' : Int32, yr_O N (o ++ o1) yo' → wY_forward_29 post n (nI (t + 1)) (nI N) (nI M) (nI (wo_ws N)) (nI C) (nI h) (nI (o ++ o1).length) yo' tb yk ya bf yN yV yS) →
      wY_forward_29 post (n + 1) (nI t) (nI N) (nI M) (nI (wo_ws N)) (nI C) (nI (h + 1)) (nI o.length) yo tb yk ya bf yN yV yS) : fw_Y N M C tb yk ya bf i w o1 1 := by
  intro post n t h o0 yo yN yV yS hh ht hl e1 e2 hO H
  exact step _ _ t h o0 yo yN yV yS (by omega) (by omega) (by omega) e1 e2 hO fun yo' ho => H yo' yN yV yS yr_Fr ho
end YQ
/-! counting -/
theorem fw_c3 {sa sb c1 c2 l1 l2 : Nat} (h1 : c1 ≤ 2 * sa * max l1 1) (h2 : c2 ≤ 2 * sb * max l2 1) : 1 + c1 + c2 ≤ 2 * (sa + sb + 1) * max (l1 + l2) 1 := by
  have a1 : 2 * sa * max l1 1 ≤ 2 * sa * max (l1 + l2) 1 := Nat.mul_le_mul_left _ (by omega)
  have a2 : 2 * sb * max l2 1 ≤ 2 * sb * max (l1 + l2) 1 := Nat.mul_le_mul_left _ (by omega)
  have a3 : 1 ≤ max (l1 + l2) 1 := by omega
  generalize max (l1 + l2) 1 = L at *
  have e : 2 * (sa + sb + 1) * L = 2 * sa * L + 2 * sb * L + 2 * L := by
    rw [Nat.mul_add, Nat.mul_add, Nat.add_mul, Nat.add_mul]
  omega
theorem fw_c4 {sa c1 c2 l1 r : Nat} (hl : 1 ≤ l1) (h1 : c1 ≤ 2 * sa * max l1 1) (h2 : (r = 0 ∧ c2 = 1) ∨ (1 ≤ r ∧ c2 ≤ 2 * (sa + 1) * max r 1)) : 1 + c1 + c2 ≤ 2 * (sa + 1) * max (l1 + r) 1 := by
  rw [show max l1 1 = l1 by omega] at h1
  rw [show max (l1 + r) 1 = l1 + r by omega]
  have e : 2 * (sa + 1) * (l1 + r) = 2 * sa * l1 + 2 * l1 + 2 * (sa + 1) * r := by
    rw [Nat.mul_add (2 * (sa + 1)), Nat.mul_add 2, Nat.add_mul]
  rcases h2 with ⟨h, h'⟩ | ⟨h, h'⟩
  · subst h
    omega
  · rw [show max r 1 = r by omega] at h'
    omega
theorem fw_c5 {sa sb c1 l : Nat} (h1 : c1 ≤ 2 * sa * max l 1) (h : sa + 1 ≤ sb) : 1 + c1 ≤ 2 * sb * max l 1 := by
  have a1 : 2 * (sa + 1) * max l 1 ≤ 2 * sb * max l 1 := Nat.mul_le_mul_right _ (by omega)
  have e : 2 * (sa + 1) * max l 1 = 2 * sa * max l 1 + 2 * max l 1 := by
    rw [Nat.mul_add 2, Nat.add_mul]
  omega
theorem fw_c1 {s l : Nat} (hs : 1 ≤ s) : 1 ≤ 2 * s * max l 1 := by
  have : 1 * 1 ≤ 2 * s * max l 1 := Nat.mul_le_mul (by omega) (by omega)
  omega
theorem fw_uni {P Q : List Nat → Prop} {w : List Nat} (h : wo_Sp P Q w) (hn : ¬ wo_Am P Q w) : ∃ k, k ≤ w.length ∧ ∀ j, j ≤ w.length → ((P (w.take j) ∧ Q (w.drop j)) ↔ j = k) := by
  obtain ⟨k, hk, h1⟩ := h
  refine ⟨k, hk, fun j hj => ⟨fun h2 => ?_, fun e => by rw [e]; exact h1⟩⟩
  rcases Nat.lt_trichotomy j k with h | h | h
  · exact absurd ⟨j, k, h, hk, h2, h1⟩ hn
  · exact h
  · exact absurd ⟨k, j, h, hj, h1, h2⟩ hn
def fw_Out (N M C : Nat) (xn : Int32) (kd ag st le ll lc em fi la fo pr fr wd sz tb yk ya bf : Nat → Int32) (i lo len : Nat) : Prop :=
  ∃ o c, wo_V o ∧ o.length ≤ 6 * c ∧ c ≤ 2 * (i - zr_sn st i + 1) * max len 1 ∧ (kd i = 4 → len = 0 → c = 1) ∧
    fw_X N M C xn kd ag st le ll lc em fi la fo pr fr wd sz i lo (lo + len) o c ∧ fw_Y N M C tb yk ya bf i (wo_sg (xf_f wd 0) lo len) o c
section MAIN
variable {N M C : Nat} {xn : Int32} {kd ag st le ll lc em fi la fo pr fr wd sz tb yk ya bf : Nat → Int32}
/-- a cut of the table's words is a cut of X's automata, at absolute places -/
theorem fw_hu (R : zr_Rel N M C kd ag st le ll lc em fi la fo wd sz tb yk ya bf) {s a b lo len k : Nat} (hs : s < 2) (ha : a < C) (hb : b < C) (hl : lo + len ≤ 6)
    (hu : ∀ j, j ≤ (wo_sg (xf_f wd s) lo len).length → ((zr_T tb s a ((wo_sg (xf_f wd s) lo len).take j) ∧ zr_T tb s b ((wo_sg (xf_f wd s) lo len).drop j)) ↔ j = k)) :
    (∀ j, lo ≤ j → j ≤ lo + len → ((xa_An em fi la fo le (s * 12 + a) (wo_sg (xf_f wd s) lo (j - lo)) ∧ xa_An em fi la fo le (s * 12 + b) (wo_sg (xf_f wd s) j (lo + len - j))) ↔ j = lo + k)) ∧
    (∀ j, j ≤ (wo_sg (xf_f wd s) lo len).length → ((ys_T tb s a ((wo_sg (xf_f wd s) lo len).take j) ∧ ys_T tb s b ((wo_sg (xf_f wd s) lo len).drop j)) ↔ j = k)) := by
  have hW := R.2.2.1
  constructor
  · intro j h1 h2
    have h := hu (j - lo) (by rw [wo_sgL]; omega)
    rw [wo_sgT (by omega), wo_sgD (by omega), show lo + (j - lo) = j by omega] at h
    rw [(R.2.2.2.2.2.2.2 a ha s hs).2 _ (xf_V hW hs (by omega)) (by rw [wo_sgL]; omega), (R.2.2.2.2.2.2.2 b hb s hs).2 _ (xf_V hW hs (by omega)) (by rw [wo_sgL]; omega), show lo + len - j = len - (j - lo) by omega, h]
    omega
  · intro j hj
    have h := hu j hj
    rw [wo_sgL] at hj
    rw [wo_sgT (by omega), wo_sgD (by omega)] at h ⊢
    rw [← h]
    have v1 : wo_V (wo_sg (xf_f wd s) lo j) := xf_V hW hs (by omega)
    have v2 : wo_V (wo_sg (xf_f wd s) (lo + j) (len - j)) := xf_V hW hs (by omega)
    exact ⟨fun h => ⟨⟨v1, by rw [wo_sgL]; omega, h.1⟩, v2, by rw [wo_sgL]; omega, h.2⟩, fun h => ⟨h.1.2.2, h.2.2.2⟩⟩
theorem fw_main (R : zr_Rel N M C kd ag st le ll lc em fi la fo wd sz tb yk ya bf) : ∀ i, i < C → ∀ len lo, lo + len ≤ N → zr_T tb 0 i (wo_sg (xf_f wd 0) lo len) → fw_Out N M C xn kd ag st le ll lc em fi la fo pr fr wd sz tb yk ya bf i lo len := by
  have hM := R.1
  have hW := R.2.2.1
  have h01 := R.2.2.2.1
  have hSt := (zr_sle R).1
  have hSl := (zr_sle R).2
  have hySt := (zr_ySt R).1
  intro i
  induction i using Nat.strongRecOn with
  | _ i IH =>
    intro hi len
    induction len using Nat.strongRecOn with
    | _ len ih =>
      intro lo hlo hT
      have hi12 : i < 12 := by omega
      have hP := R.2.2.2.2.2.2.1 i hi
      have hE := R.2.2.2.2.2.1 i hi
      have hA := R.2.2.2.2.2.2.2 i hi
      have hs := hSl i hi
      have hv : wo_V (wo_sg (xf_f wd 0) lo len) := xf_V hW (by omega) (by omega)
      have hln : (wo_sg (xf_f wd 0) lo len).length = len := wo_sgL _ _ _
      have hyst : ∀ j, j < i → ys_St yk (zr_sn st) j := fun j hj => hySt j (by omega)
      rcases ys_kd (hSt i hi) with hk | hk | hk | hk | hk | hk
      · -- COPY
        refine ⟨wo_sg (xf_f wd 0) lo len, 1, hv, by omega, fw_c1 (by omega), fun _ _ => rfl, ?_, ?_⟩
        · refine fw_leafX fun post xt o ot tN tL tH tO tP hl hO H => ?_
          refine xr_f0 hi12 hk hO hl (by omega) (by omega) hW ?_
          rw [show lo + len - lo = len by omega]
          exact H
        · refine fw_leafY fun post n t h o yo yN yV yS ht hh hl e1 e2 hO H => ?_
          exact yr_f0 ht hh hi12 hyst e1 e2 (by rw [hE.1, hk]) (by omega) hO hl hv (by omega) H
      · -- INSERT
        obtain ⟨d, hd, had⟩ := hP.2.1 hk
        refine ⟨[d], 1, wo_Vc.mpr ⟨hd, wo_V0⟩, by simp, fw_c1 (by omega), fun _ _ => rfl, ?_, ?_⟩
        · refine fw_leafX fun post xt o ot tN tL tH tO tP hl hO H => ?_
          exact xr_f1 hi12 hk had hO hl H
        · refine fw_leafY fun post n t h o yo yN yV yS ht hh hl e1 e2 hO H => ?_
          exact yr_f1 ht hh hi12 hyst e1 e2 (by rw [hE.1, hk]) (by rw [hE.2.1, had]) hd (by omega) hO hl H
      · -- ERASE
        refine ⟨[], 1, wo_V0, by simp, fw_c1 (by omega), fun _ _ => rfl, ?_, ?_⟩
        · refine fw_leafX fun post xt o ot tN tL tH tO tP hl hO H => ?_
          rw [List.append_nil] at H
          exact xr_f2 hi12 hk (H ot hO)
        · refine fw_leafY fun post n t h o yo yN yV yS ht hh hl e1 e2 hO H => ?_
          rw [List.append_nil] at H
          exact yr_f2 ht hh hi12 hyst e1 e2 (by rw [hE.1, hk]) (H yo hO)
      · -- CONCAT
        have ⟨b1, b2, b3, b4, _⟩ := ys_bin (fun j hj => hSt j (by omega)) (Or.inl hk)
        have ⟨p1, p2⟩ := hP.2.2.2.1 hk 0 (by omega)
        have hst := (R.2.2.2.2.2.1 (i - 1) (by omega)).2.2
        have hsa := hSl (zr_sn st (i - 1) - 1) (by omega)
        obtain ⟨k, hkl, hu⟩ := fw_uni ((p1 _ hv (by omega)).mp hT) (p2 _ hv (by omega))
        have ⟨hx, hy⟩ := fw_hu R (s := 0) (by omega) (by omega) (by omega) (by omega) hu
        have ⟨g1, g2⟩ := (hu k hkl).mpr rfl
        rw [hln] at hkl
        rw [wo_sgT hkl] at g1
        rw [wo_sgD hkl] at g2
        obtain ⟨o1, c1, v1, l1, q1, _, X1, Y1⟩ := IH (zr_sn st (i - 1) - 1) (by omega) (by omega) k lo (by omega) g1
        obtain ⟨o2, c2, v2, l2, q2, _, X2, Y2⟩ := IH (i - 1) (by omega) (by omega) (len - k) (lo + k) (by omega) g2
        rw [show lo + k + (len - k) = lo + len by omega] at X2
        refine ⟨o1 ++ o2, 1 + c1 + c2, wo_Va.mpr ⟨v1, v2⟩, by rw [List.length_append]; omega, ?_, fun h => by rw [hk] at h; exact absurd h (by decide), ?_, ?_⟩
        · have := fw_c3 q1 q2
          rw [show k + (len - k) = len by omega] at this
          rw [b4, show i - zr_sn st (zr_sn st (i - 1) - 1) + 1 = zr_sn st (i - 1) - 1 - zr_sn st (zr_sn st (i - 1) - 1) + 1 + (i - 1 - zr_sn st (i - 1) + 1) + 1 by omega]
          exact this
        · refine fw_seqX (by omega) (by omega) l1 X1 X2 fun post xd h ot tN tL tH tO tP hh H => ?_
          exact xr_f3 hi12 b1 b2 b3 hk hst hh (by omega) hW (R.2.2.2.2.2.2.2 _ (by omega) 0 (by omega)).1 (R.2.2.2.2.2.2.2 _ (by omega) 0 (by omega)).1 (by omega) (by omega) hx H
        · refine fw_seqY (by omega) (by omega) l1 Y1 Y2 fun post n t h yd yo yN yV yS ht hh e1 e2 H => ?_
          have H' := yr_f3 (post := post) (yz := nI N) (ym := nI M) (yw := nI (wo_ws N)) (yc := nI C) (yd := yd) (yo := yo) (ya := ya) (bf := bf) (yV := yV) ht hh hi12 hyst h01 e1 e2 (by rw [hE.1, hk]) b1 b2 b3 hv (by omega) k (by omega) hy (n := n)
          rw [wo_sgT hkl, wo_sgD hkl] at H'
          exact H' H
      · -- ITERATE
        have ⟨b1, b2⟩ := ys_una (hSt i hi) (Or.inr hk)
        have ⟨p0, p1, p2⟩ := hP.2.2.2.2.1 hk 0 (by omega)
        have hs1 := hSl (i - 1) (by omega)
        rcases Nat.eq_zero_or_pos len with h0 | h0
        · subst h0
          refine ⟨[], 1, wo_V0, by simp, fw_c1 (by omega), fun _ _ => rfl, ?_, ?_⟩
          · refine fw_leafX fun post xt o ot tN tL tH tO tP hl hO H => ?_
            rw [List.append_nil] at H
            exact xr_f4e hi12 hk (by omega) (H ot hO)
          · refine fw_leafY fun post n t h o yo yN yV yS ht hh hl e1 e2 hO H => ?_
            rw [List.append_nil] at H
            exact yr_f4e ht hh hi12 hyst e1 e2 (by rw [hE.1, hk]) (H yo hO)
        · have hne : wo_sg (xf_f wd 0) lo len ≠ [] := by
            intro h
            rw [h] at hln
            simp at hln
            omega
          have hsp := ((p1 _ hv (by omega)).mp hT).resolve_left hne
          obtain ⟨k, hkl, hu⟩ := fw_uni hsp (p2 _ hv (by omega))
          have ⟨hx, hy⟩ := fw_hu R (s := 0) (by omega) (by omega) (by omega) (by omega) hu
          have ⟨g1, g2⟩ := (hu k hkl).mpr rfl
          rw [hln] at hkl
          rw [wo_sgT hkl] at g1
          rw [wo_sgD hkl] at g2
          have hk1 : 1 ≤ k := by
            rcases Nat.eq_zero_or_pos k with e | e
            · subst e
              exact absurd g1 p0
            · exact e
          obtain ⟨o1, c1, v1, l1, q1, _, X1, Y1⟩ := IH (i - 1) (by omega) (by omega) k lo (by omega) g1
          obtain ⟨o2, c2, v2, l2, q2, q3, X2, Y2⟩ := ih (len - k) (by omega) (lo + k) (by omega) g2
          rw [show lo + k + (len - k) = lo + len by omega] at X2
          refine ⟨o1 ++ o2, 1 + c1 + c2, wo_Va.mpr ⟨v1, v2⟩, by rw [List.length_append]; omega, ?_, fun _ h => by omega, ?_, ?_⟩
          · have := fw_c4 (sa := i - 1 - zr_sn st (i - 1) + 1) (c2 := c2) (r := len - k) hk1 q1 (by
              rcases Nat.eq_zero_or_pos (len - k) with e | e
              · exact Or.inl ⟨e, q3 hk e⟩
              · refine Or.inr ⟨e, ?_⟩
                rw [b2, show i - zr_sn st (i - 1) + 1 = i - 1 - zr_sn st (i - 1) + 1 + 1 by omega] at q2
                exact q2)
            rw [show k + (len - k) = len by omega] at this
            rw [b2, show i - zr_sn st (i - 1) + 1 = i - 1 - zr_sn st (i - 1) + 1 + 1 by omega]
            exact this
          · refine fw_seqX (by omega) (by omega) l1 X1 X2 fun post xd h ot tN tL tH tO tP hh H => ?_
            exact xr_f4 hi12 b1 hk (by omega) hh (by omega) hW (R.2.2.2.2.2.2.2 _ (by omega) 0 (by omega)).1 (R.2.2.2.2.2.2.2 _ (by omega) 0 (by omega)).1 (by omega) (by omega) hx H
          · refine fw_seqY (by omega) (by omega) l1 Y1 Y2 fun post n t h yd yo yN yV yS ht hh e1 e2 H => ?_
            have H' := yr_f4 (post := post) (yz := nI N) (ym := nI M) (yw := nI (wo_ws N)) (yc := nI C) (yd := yd) (yo := yo) (ya := ya) (bf := bf) (yV := yV) ht hh hi12 hyst h01 e1 e2 (by rw [hE.1, hk]) b1 hv (by omega) hne k (by omega) hy (n := n)
            rw [wo_sgT hkl, wo_sgD hkl] at H'
            exact H' H
      · -- UNION
        have ⟨b1, b2, b3, b4, _⟩ := ys_bin (fun j hj => hSt j (by omega)) (Or.inr hk)
        have p1 := hP.2.2.2.2.2.1 hk 0 (by omega) (wo_sg (xf_f wd 0) lo len)
        have hst := (R.2.2.2.2.2.1 (i - 1) (by omega)).2.2
        have hsa := hSl (zr_sn st (i - 1) - 1) (by omega)
        have tT : zr_T tb 0 (zr_sn st (i - 1) - 1) (wo_sg (xf_f wd 0) lo len) ↔ ys_T tb 0 (zr_sn st (i - 1) - 1) (wo_sg (xf_f wd 0) lo len) := ⟨fun h => h.2.2, fun h => ⟨hv, by omega, h⟩⟩
        have tA := (R.2.2.2.2.2.2.2 (zr_sn st (i - 1) - 1) (by omega) 0 (by omega)).2 _ hv (by omega)
        have hia := (R.2.2.2.2.2.2.2 (zr_sn st (i - 1) - 1) (by omega) 0 (by omega)).1
        by_cases hin : zr_T tb 0 (zr_sn st (i - 1) - 1) (wo_sg (xf_f wd 0) lo len)
        · obtain ⟨o1, c1, v1, l1, q1, _, X1, Y1⟩ := IH (zr_sn st (i - 1) - 1) (by omega) (by omega) len lo (by omega) hin
          refine ⟨o1, 1 + c1, v1, by omega, fw_c5 q1 (by rw [b4]; omega), fun h => by rw [hk] at h; exact absurd h (by decide), ?_, ?_⟩
          · refine fw_oneX (by omega) X1 fun post xd h ot tN tL tH tO tP hh H => ?_
            refine xr_f5 hi12 b1 b2 b3 hk hst hh (by omega) (by omega) hW hia fun d hd => ?_
            rw [show lo + len - lo = len by omega] at hd
            rcases hd with ⟨_, rfl⟩ | ⟨hd, _⟩
            · exact H
            · exact absurd (tA.mpr hin) hd
          · refine fw_oneY (by omega) Y1 fun post n t h yd yo yN yV yS ht hh e1 e2 H => ?_
            refine yr_f5 ht hh hi12 hyst h01 e1 e2 (by rw [hE.1, hk]) b1 b2 b3 hv (by omega) fun d hd => ?_
            rcases hd with ⟨_, rfl⟩ | ⟨hd, _⟩
            · exact H
            · exact absurd (tT.mp hin) hd
        · have hib := (p1.mp hT).resolve_left hin
          obtain ⟨o1, c1, v1, l1, q1, _, X1, Y1⟩ := IH (i - 1) (by omega) (by omega) len lo (by omega) hib
          refine ⟨o1, 1 + c1, v1, by omega, fw_c5 q1 (by rw [b4]; omega), fun h => by rw [hk] at h; exact absurd h (by decide), ?_, ?_⟩
          · refine fw_oneX (by omega) X1 fun post xd h ot tN tL tH tO tP hh H => ?_
            refine xr_f5 hi12 b1 b2 b3 hk hst hh (by omega) (by omega) hW hia fun d hd => ?_
            rw [show lo + len - lo = len by omega] at hd
            rcases hd with ⟨hd, _⟩ | ⟨_, rfl⟩
            · exact absurd (tA.mp hd) hin
            · exact H
          · refine fw_oneY (by omega) Y1 fun post n t h yd yo yN yV yS ht hh e1 e2 H => ?_
            refine yr_f5 ht hh hi12 hyst h01 e1 e2 (by rw [hE.1, hk]) b1 b2 b3 hv (by omega) fun d hd => ?_
            rcases hd with ⟨hd, _⟩ | ⟨_, rfl⟩
            · exact absurd (tT.mpr hd) hin
            · exact H
end MAIN
end FW
end
section
section DV
theorem dv_sgE {f : Nat → Nat} {o : List Nat} : ∀ lo, (∀ j, j < o.length → f (lo + j) = o.getD j 0) → wo_sg f lo o.length = o := by
  induction o with
  | nil => intro lo _; rfl
  | cons c o ih =>
    intro lo h
    rw [List.length_cons]
    simp only [wo_sg]
    have h0 := h 0 (by simp)
    rw [ih (lo + 1) fun j hj => by
      have := h (j + 1) (by simp; omega)
      rw [show lo + 1 + j = lo + (j + 1) by omega, this]
      simp]
    rw [show lo = lo + 0 from rfl, h0]
    simp
theorem dv_V {o : List Nat} (h : wo_V o) (j : Nat) : o.getD j 0 < 3 := by
  rcases Nat.lt_or_ge j o.length with hj | hj
  · rw [List.getD_eq_getElem?_getD, List.getElem?_eq_getElem hj]
    exact h _ (List.getElem_mem hj)
  · rw [List.getD_eq_getElem?_getD, List.getElem?_eq_none hj]
    decide
variable {xl xm xc xn xd xt : Int32} {kd ag st le ll lc em fi la fo pr fr wd sz ot tN tL tH tO tP : Nat → Int32} {post : SX → Prop} {qost : Int32 → SX → Prop} {rost : Int32 → Prop}
theorem dv_L {s : Nat} (hs : s < 2) {o : List Nat} (hO : xr_O o ot) (h6 : o.length ≤ 6) : ∀ (m k n : Nat) (wd : Nat → Int32), k + m = o.length → m < n →
    (∀ wd' : Nat → Int32, (∀ j, k ≤ j → j < o.length → wd' (s * 6 + j) = nI (o.getD j 0)) → (∀ j, j < s * 6 + k ∨ s * 6 + o.length ≤ j → wd' j = wd j) → qost 0 (xl, xm, xc, xn, nI o.length, xt, kd, ag, st, le, ll, lc, em, fi, la, fo, pr, fr, wd', upd sz s (nI o.length), ot, tN, tL, tH, tO, tP)) →
    wX_deliver_16 qost (nI s) xl xm xc xn (nI o.length) xt n (nI k) kd ag st le ll lc em fi la fo pr fr wd sz ot tN tL tH tO tP := by
  intro m
  induction m with
  | zero =>
    intro k n wd hk hn H
    obtain ⟨n, rfl⟩ : ∃ m, n = m + 1 := ⟨n - 1, by omega⟩
    refine br_t (nI_le (by omega) (by omega)) ⟨ze_2in hs, ?_⟩
    rw [xs_cl (by omega)]
    exact nm_e (H wd (fun j h1 h2 => by omega) fun _ _ => rfl)
  | succ m ih =>
    intro k n wd hk hn H
    obtain ⟨n, rfl⟩ : ∃ m, n = m + 1 := ⟨n - 1, by omega⟩
    refine br_f (nI_ge (by omega) (by omega)) (br_f (nI_ge (b := 6) (by omega) (by omega)) ⟨xs_in (by omega) (by omega), xf_iv hs (by omega), ?_⟩)
    rw [xf_ix hs (by omega), xs_cl (by omega), hO k (by omega) (by omega)]
    refine nm_e (nm_r (nI_1 k) (ih (k + 1) n _ (by omega) (by omega) fun wd' h1 h2 => H wd' ?_ ?_))
    · intro j hj hj'
      by_cases e : j = k
      · subst e
        rw [h2 _ (by omega), nu_us]
      · exact h1 j (by omega) hj'
    · intro j hj
      rw [h2 j (by omega), nu_un (by omega)]
theorem dv_X {N s : Nat} (hs : s < 2) (hN : N ≤ 6) {o : List Nat} (hO : xr_O o ot) (hl : o.length ≤ N)
    (H : ∀ wd' : Nat → Int32, (∀ j, j < o.length → wd' (s * 6 + j) = nI (o.getD j 0)) → (∀ j, j < s * 6 ∨ s * 6 + o.length ≤ j → wd' j = wd j) → qost 0 (nI N, xm, xc, xn, nI o.length, xt, kd, ag, st, le, ll, lc, em, fi, la, fo, pr, fr, wd', upd sz s (nI o.length), ot, tN, tL, tH, tO, tP)) :
    wpX_deliver qost (nI N, xm, xc, xn, nI o.length, xt, kd, ag, st, le, ll, lc, em, fi, la, fo, pr, fr, wd, sz, ot, tN, tL, tH, tO, tP) (nI s) := by
  refine br_t (nI_le hl (by omega)) ⟨o.length + 1, ?_⟩
  exact dv_L hs hO (by omega) o.length 0 _ wd (by omega) (by omega) fun wd' h1 h2 => H wd' (fun j hj => h1 j (by omega) hj) fun j hj => h2 j (by omega)
theorem dv_B {N s : Nat} {wd sz bf wd' : Nat → Int32} {o : List Nat} (hs : s < 2) (hN : N ≤ 6) (hW : xf_W wd) (hB : zr_B N wd sz bf) (hv : wo_V o) (hl : o.length ≤ N)
    (h1 : ∀ j, j < o.length → wd' (s * 6 + j) = nI (o.getD j 0)) (h2 : ∀ j, j < s * 6 ∨ s * 6 + o.length ≤ j → wd' j = wd j) :
    xf_W wd' ∧ zr_B N wd' (upd sz s (nI o.length)) (upd bf s (nI (wo_cd o))) := by
  constructor
  · intro j hj
    by_cases e : j < s * 6 ∨ s * 6 + o.length ≤ j
    · rw [h2 j e]
      exact hW j hj
    · have := h1 (j - s * 6) (by omega)
      rw [show s * 6 + (j - s * 6) = j by omega] at this
      exact ⟨_, dv_V hv _, this⟩
  · intro t ht
    by_cases e : t = s
    · subst e
      refine ⟨o.length, hl, nu_us, ?_⟩
      rw [nu_us, dv_sgE 0 fun j hj => ?_]
      rw [Nat.zero_add]
      unfold xf_f
      rw [h1 j hj, xs_cl (by have := dv_V hv j; omega)]
    · obtain ⟨m, hm, e1, e2⟩ := hB t ht
      refine ⟨m, hm, by rw [nu_un e]; exact e1, ?_⟩
      rw [nu_un e, e2]
      have q1 : wo_sg (xf_f wd' t) 0 m = wo_sg (xf_f wd t) 0 m := wo_sgC fun i _ hi => by
        unfold xf_f
        rw [h2 _ (by omega)]
      rw [q1]
theorem dv_cost {i s l c : Nat} (hi : i ≤ 11) (hl : l ≤ 6) (h : c ≤ 2 * (i - s + 1) * max l 1) : c ≤ 144 := by
  have a : 2 * (i - s + 1) * max l 1 ≤ 24 * 6 := Nat.mul_le_mul (by omega) (by omega)
  omega
theorem i_vc_get {k : Nat} {u : SX} {v : SY} (I : i_Rel k u v) (hk : k + 3 ≤ 1538) : wpX_get (fun r u' => wpY_get (fun r' v' => r' = r ∧ i_Rel (k + 3) u' v') v) u := by
  refine zr_el (P := fun u v => wpX_get (fun r u' => wpY_get (fun r' v' => r' = r ∧ i_Rel (k + 3) u' v') v) u) ?_ I
  intro N M C xd xt kd ag st le ll lc em fi la fo pr fr wd sz ot tN tL tH tO tP yt yd yo tb yk ya bf yN yV yS R
  have hM := R.1
  have dl := ys_dpl (kd := kd) C
  rcases ze_len R with ⟨h0, d0⟩ | ⟨h1, d1⟩
  · have : ¬ (1 : Int32) ≤ nI (ys_dp kd C) := nI_ge (b := 1) (by omega) (by omega)
    exact br_f this (br_t (by rw [h0]; rfl) ⟨rfl, zr_in rfl R⟩)
  · obtain ⟨m, hm, e1, e2, b, hb, hbT, X, Y⟩ := ze_mem R h1 (s := 0) (by omega)
    refine br_t (nI_le (a := 1) d1 (by omega)) (X _ _ _ _ _ _ _ _ _ _ _ ?_)
    have nC := nI_ne0 (n := C) (by omega) (by omega)
    by_cases hb0 : b = 0
    · exact br_t hb0 (br_f nC (Y _ _ _ _ _ _ _ (br_t hb0 ⟨rfl, zr_in rfl R⟩)))
    · have hT := hbT.mp (hb.resolve_left hb0)
      obtain ⟨o, c, hv, hl, hc, _, FX, FY⟩ := fw_main (xn := nI (ys_dp kd C)) (pr := pr) (fr := fr) R (C - 1) (by omega) m 0 (by omega) hT
      rw [Nat.zero_add] at FX
      have hc := dv_cost (by omega) (by omega) hc
      refine br_f hb0 ?_
      unfold wpX_runForward
      dsimp only
      rw [e1, nu_s1 (n := C) h1]
      refine xr_push (h := 0) (by omega) _ _ _ _ _ ?_
      dsimp only
      refine ⟨1 + c, ?_⟩
      refine FX _ 1 0 0 [] ot _ _ _ _ _ (by omega) (by omega) (by simp) nu_us nu_us nu_us (fun j _ hj => by simp at hj) ?_
      intro ot1 tN1 tL1 tH1 tO1 tP1 _ hO1
      rw [List.nil_append] at hO1 ⊢
      refine xr_end (n := 0) (by omega) ?_
      have YY : ∀ qost : Int32 → SY → Prop, (∀ (yo' : Int32) (yN' yV' yS' : Nat → Int32), yr_O N o yo' → ((nI o.length ≤ nI N → (∀ bf' : Nat → Int32, bf' = upd bf 1 yo' → qost 0 (nI N, nI M, nI (wo_ws N), nI C, nI 0, nI o.length, yo', tb, yk, ya, bf', yN', yV', yS'))) ∧ (¬ nI o.length ≤ nI N → qost 8 (nI N, nI M, nI (wo_ws N), nI C, nI 0, nI o.length, yo', tb, yk, ya, bf, yN', yV', yS')))) →
          wpY_get qost (nI N, nI M, nI (wo_ws N), nI C, yt, yd, yo, tb, yk, ya, bf, yN, yV, yS) := by
        intro qost H
        refine br_f nC (Y _ _ _ _ _ _ _ (br_f hb0 ?_))
        unfold wpY_forward
        dsimp only
        rw [e2, nu_s1 (n := C) h1]
        refine yr_push (h := 0) (by omega) _ _ _ ?_
        dsimp only
        refine ⟨1 + c, ?_⟩
        refine FY _ 1 0 0 [] 0 _ _ _ (by omega) (by omega) (by simp) nu_us nu_us (fun _ => rfl) ?_
        intro yo1 yN1 yV1 yS1 _ hO1
        rw [List.nil_append] at hO1 ⊢
        exact yr_end (n := 0) (by omega) (H yo1 yN1 yV1 yS1 hO1)
      rcases Nat.lt_or_ge N o.length with hN | hN
      · have h8 := nI_ge (a := N) (b := o.length) hN (by omega)
        exact br_f h8 (YY _ fun yo' yN' yV' yS' _ => br_f h8 ⟨rfl, zr_in rfl R⟩)
      · have h8 := nI_le (a := o.length) (b := N) hN (by omega)
        refine dv_X (s := 1) (by omega) (by omega) hO1 hN fun wd' g1 g2 => ?_
        refine YY _ fun yo' yN' yV' yS' ho => br_t h8 (nm_e ⟨rfl, zr_in rfl ?_⟩)
        rw [ho hN]
        have dB := dv_B (s := 1) (by omega) (by omega) R.2.2.1 R.2.2.2.2.1 hv hN g1 g2
        exact zr_words R dB.1 dB.2
end DV
end
section
section XK
/-! the old source of a task: none, or a stretch (start, length) of the source buffer -/
def bk_a : Option (Nat × Nat) → Int32
  | none => -1
  | some p => nI p.1
def bk_b : Option (Nat × Nat) → Int32
  | none => -1
  | some p => nI (p.1 + p.2)
def bk_s (wd : Nat → Int32) : Option (Nat × Nat) → Int32
  | none => -1
  | some p => nI (wo_cd (wo_sg (xf_f wd 0) p.1 p.2))
def bk_ok (tb wd : Nat → Int32) (i : Nat) : Option (Nat × Nat) → Prop
  | none => True
  | some p => p.1 + p.2 ≤ 6 ∧ zr_T tb 0 i (wo_sg (xf_f wd 0) p.1 p.2)
def bk_SP (tb wd : Nat → Int32) (a b : Nat) (q q1 q2 : Option (Nat × Nat)) : Prop :=
  (q = none ∧ q1 = none ∧ q2 = none) ∨
  (∃ x n j, q = some (x, n) ∧ x + n ≤ 6 ∧ j ≤ n ∧ q1 = some (x, j) ∧ q2 = some (x + j, n - j) ∧
    ∀ j', j' ≤ (wo_sg (xf_f wd 0) x n).length → ((zr_T tb 0 a ((wo_sg (xf_f wd 0) x n).take j') ∧ zr_T tb 0 b ((wo_sg (xf_f wd 0) x n).drop j')) ↔ j' = j)) ∨
  (∃ x, q = some (x, 0) ∧ q1 = none ∧ q2 = none ∧ x ≤ 6 ∧ ¬ zr_T tb 0 a [])
variable {xl xm xc xn xd xt : Int32} {kd ag st le ll lc em fi la fo pr fr wd sz ot tN tL tH tO tP : Nat → Int32} {tb yk ya bf : Nat → Int32} {post : SX → Prop} {qost : Int32 → SX → Prop} {rost : Int32 → Prop}
theorem xk_dig {p suf : List Nat} {c : Nat} (hc : c < 3) (hv : wo_V (p ++ c :: suf)) (hl : (p ++ c :: suf).length ≤ 6) : ((nI (wo_c4 (p ++ c :: suf))) >>> ((2 * nI suf.length) &&& 31)) &&& 3 = nI c := by
  have h1 := wo_4lt hv
  have h2 := zc_46 hl
  rw [List.length_append, List.length_cons] at hl
  have hs : wo_V suf := (wo_Vc.mp (wo_Va.mp hv).2).2
  have e : wo_c4 (p ++ c :: suf) / 4 ^ suf.length % 4 = c := wo_4dig hc hs
  have hd : wo_c4 (p ++ c :: suf) / 4 ^ suf.length ≤ wo_c4 (p ++ c :: suf) := Nat.div_le_self _ _
  rw [nu_2m, pk_shrN (by omega) _ (2 * suf.length) (s_l _ (by omega)), zc_4, pk_andN (by omega) 2 (by decide)]
  exact congrArg nI e
theorem xk_resL {i : Nat} (hi : i < 12) {w : List Nat} (hv : wo_V w) (hw : w.length ≤ 6) (hc : lc i = nI (wo_c4 w)) : ∀ (suf p : List Nat) (n : Nat) (o : List Nat) (ot : Nat → Int32), w = p ++ suf → suf.length < n → xr_O o ot → o.length + suf.length < 50000 →
    (∀ ot' : Nat → Int32, xr_O (o ++ suf) ot' → post (xl, xm, xc, xn, nI (o ++ suf).length, xt, kd, ag, st, le, ll, lc, em, fi, la, fo, pr, fr, wd, sz, ot', tN, tL, tH, tO, tP)) → wX_restore_22 post (nI i) n (nI suf.length - 1) xl xm xc xn (nI o.length) xt kd ag st le ll lc em fi la fo pr fr wd sz ot tN tL tH tO tP := by
  intro suf
  induction suf with
  | nil =>
    intro p n o ot e hn hO hl H
    obtain ⟨n, rfl⟩ : ∃ m, n = m + 1 := ⟨n - 1, by omega⟩
    rw [List.append_nil] at H
    exact br_t (by decide) (H ot hO)
  | cons c suf ih =>
    intro p n o ot e hn hO hl H
    obtain ⟨n, rfl⟩ : ∃ m, n = m + 1 := ⟨n - 1, by omega⟩
    rw [List.length_cons] at hn hl
    rw [List.length_cons, nI_pred]
    have hc3 : c < 3 := hv c (by rw [e]; simp)
    refine br_f (nI_pos (by omega)) ⟨xs_in hi (by omega), ?_⟩
    rw [xs_cl (by omega : i < 4096), hc, e, xk_dig hc3 (by rw [← e]; exact hv) (by rw [← e]; exact hw)]
    refine xr_emit hO (by omega) _ fun ot1 h1 => nm_r (e' := nI suf.length - 1) (by rw [Int32.sub_eq_add_neg]) ?_
    refine ih (p ++ [c]) n _ ot1 (by rw [e, List.append_assoc]; rfl) (by omega) h1 (by rw [List.length_append, List.length_singleton]; omega) ?_
    rw [List.append_assoc]
    exact H
/-! backward, one task -/
theorem xk_b0 {i lo hi : Nat} {p3 p4 : Int32} {o : List Nat} (hi12 : i < 12) (hk : kd i = 0) (hO : xr_O o ot) (hl : o.length < 40000) (h6 : hi ≤ 6) (hlo : lo ≤ hi) (hw : xf_W wd)
    (H : ∀ ot' : Nat → Int32, xr_O (o ++ wo_sg (xf_f wd 1) lo (hi - lo)) ot' → post (xl, xm, xc, xn, nI (o ++ wo_sg (xf_f wd 1) lo (hi - lo)).length, xt, kd, ag, st, le, ll, lc, em, fi, la, fo, pr, fr, wd, sz, ot', tN, tL, tH, tO, tP)) : wpX_backward post (xl, xm, xc, xn, nI o.length, xt, kd, ag, st, le, ll, lc, em, fi, la, fo, pr, fr, wd, sz, ot, tN, tL, tH, tO, tP) (nI i) (nI lo) (nI hi) p3 p4 := by
  unfold wpX_backward
  dsimp only
  rw [xs_cl (by omega : i < 4096), hk]
  exact ⟨xs_in hi12 (by omega), nm_e (br_t rfl (xr_part (s := 1) hO hl (by omega) h6 hlo hw H))⟩
theorem xk_b1 {i : Nat} {p1 p2 p3 p4 : Int32} (hi12 : i < 12) (hk : kd i = 1) (H : post (xl, xm, xc, xn, xd, xt, kd, ag, st, le, ll, lc, em, fi, la, fo, pr, fr, wd, sz, ot, tN, tL, tH, tO, tP)) : wpX_backward post (xl, xm, xc, xn, xd, xt, kd, ag, st, le, ll, lc, em, fi, la, fo, pr, fr, wd, sz, ot, tN, tL, tH, tO, tP) (nI i) p1 p2 p3 p4 := by
  unfold wpX_backward
  dsimp only
  rw [xs_cl (by omega : i < 4096), hk]
  exact ⟨xs_in hi12 (by omega), nm_e (br_f (by decide) (br_f (by decide) (br_f (by decide) (br_f (by decide) (br_f (by decide) H)))))⟩
theorem xk_b2 {i : Nat} {p1 p2 : Int32} {q : Option (Nat × Nat)} {o w : List Nat} (hi12 : i < 12) (hk : kd i = 2) (hO : xr_O o ot) (hl : o.length < 40000) (hw : xf_W wd) (hv : wo_V w) (hwl : w.length ≤ 6) (e1 : ll i = nI w.length) (e2 : lc i = nI (wo_c4 w)) (hq : ∀ x n, q = some (x, n) → x + n ≤ 6)
    (H : ∀ (ot' : Nat → Int32) (v : List Nat), (q = none ∧ v = w) ∨ (∃ x n, q = some (x, n) ∧ v = wo_sg (xf_f wd 0) x n) → xr_O (o ++ v) ot' → post (xl, xm, xc, xn, nI (o ++ v).length, xt, kd, ag, st, le, ll, lc, em, fi, la, fo, pr, fr, wd, sz, ot', tN, tL, tH, tO, tP)) : wpX_backward post (xl, xm, xc, xn, nI o.length, xt, kd, ag, st, le, ll, lc, em, fi, la, fo, pr, fr, wd, sz, ot, tN, tL, tH, tO, tP) (nI i) p1 p2 (bk_a q) (bk_b q) := by
  unfold wpX_backward wpX_restore
  dsimp only
  rw [xs_cl (by omega : i < 4096), hk, e1]
  refine ⟨xs_in hi12 (by omega), nm_e (br_f (by decide) (br_t rfl ?_))⟩
  cases q with
  | none =>
    refine br_t nu_n1 ⟨xs_in hi12 (by omega), nm_e ⟨w.length + 1, ?_⟩⟩
    exact xk_resL hi12 hv hwl e2 w [] _ o ot rfl (by omega) hO (by omega) fun ot' h => H ot' w (Or.inl ⟨rfl, rfl⟩) h
  | some p =>
    obtain ⟨x, n⟩ := p
    have hx := hq x n rfl
    refine br_f (nI_pos (by omega)) ?_
    refine xr_part (s := 0) (lo := x) (hi := x + n) hO hl (by omega) (by omega) (by omega) hw fun ot' h => ?_
    rw [show x + n - x = n by omega] at h ⊢
    exact H ot' _ (Or.inr ⟨x, n, rfl, rfl⟩) h
theorem xk_split {N M C a b lo hi h k : Nat} (R : zr_Rel N M C kd ag st le ll lc em fi la fo wd sz tb yk ya bf) (hh : h + 1 < 64) (h6 : hi ≤ 6) (ha : a < C) (hb : b < C) (hlo : lo ≤ k) (hhi : k ≤ hi)
    (hu : ∀ j, lo ≤ j → j ≤ hi → ((xa_An em fi la fo le (1 * 12 + a) (wo_sg (xf_f wd 1) lo (j - lo)) ∧ xa_An em fi la fo le (1 * 12 + b) (wo_sg (xf_f wd 1) j (hi - j))) ↔ j = k))
    {q q1 q2 : Option (Nat × Nat)} (hS : bk_SP tb wd a b q q1 q2) {A : Int32} (hA : (q1 = none ∧ A = -1) ∨ (q1 ≠ none ∧ A = bk_a q))
    (H : post (xl, xm, xc, xn, xd, nI (h + 2), kd, ag, st, le, ll, lc, em, fi, la, fo, pr, fr, wd, sz, ot, upd (upd tN h (nI b)) (h + 1) (nI a), upd (upd tL h (nI k)) (h + 1) (nI lo), upd (upd tH h (nI hi)) (h + 1) (nI k), upd (upd tO h (bk_a q2)) (h + 1) (bk_a q1), upd (upd tP h (bk_b q2)) (h + 1) (bk_b q1))) :
    wpX_backwardSplit post (xl, xm, xc, xn, xd, nI h, kd, ag, st, le, ll, lc, em, fi, la, fo, pr, fr, wd, sz, ot, tN, tL, tH, tO, tP) (nI a) (nI b) (nI lo) (nI hi) A (bk_b q) := by
  have hM := R.1
  have hW := R.2.2.1
  unfold wpX_backwardSplit
  dsimp only
  refine xf_cut (s := 1) h6 (by omega) (by omega) (by omega) hW (R.2.2.2.2.2.2.2 a ha 1 (by omega)).1 (R.2.2.2.2.2.2.2 b hb 1 (by omega)).1 k hlo hhi hu ?_
  rcases hS with ⟨rfl, rfl, rfl⟩ | ⟨x, n, j, rfl, hx, hj, rfl, rfl, hj'⟩ | ⟨x, rfl, rfl, rfl, _⟩
  · rcases hA with ⟨_, rfl⟩ | ⟨h, _⟩
    · exact br_f nu_n1' (xr_push (by omega) _ _ _ _ _ (xr_push hh _ _ _ _ _ H))
    · exact absurd rfl h
  · rcases hA with ⟨h, _⟩ | ⟨_, rfl⟩
    · exact nomatch h
    · have hy := (fw_hu R (s := 0) (by omega) ha hb hx hj').1
      refine br_t (nI_pos' (by omega)) ?_
      refine xf_cut (s := 0) (lo := x) (hi := x + n) hx (by omega) (by omega) (by omega) hW (R.2.2.2.2.2.2.2 a ha 0 (by omega)).1 (R.2.2.2.2.2.2.2 b hb 0 (by omega)).1 (x + j) (by omega) (by omega) hy ?_
      refine xr_push (by omega) _ _ _ _ _ (xr_push hh _ _ _ _ _ ?_)
      have e : bk_b (some (x + j, n - j)) = bk_b (some (x, n)) := by
        show nI (x + j + (n - j)) = nI (x + n)
        rw [show x + j + (n - j) = x + n by omega]
      rw [e] at H
      exact H
  · rcases hA with ⟨_, rfl⟩ | ⟨h, _⟩
    · exact br_f nu_n1' (xr_push (by omega) _ _ _ _ _ (xr_push hh _ _ _ _ _ H))
    · exact absurd rfl h
theorem xk_b3 {N M C i lo hi h k : Nat} (R : zr_Rel N M C kd ag st le ll lc em fi la fo wd sz tb yk ya bf) (hC : i < C) (hk : kd i = 3) (b1 : 1 ≤ i) (b2 : 1 ≤ zr_sn st (i - 1)) (b3 : zr_sn st (i - 1) ≤ i - 1) (hh : h + 1 < 64) (h6 : hi ≤ 6) (hlo : lo ≤ k) (hhi : k ≤ hi)
    (hu : ∀ j, lo ≤ j → j ≤ hi → ((xa_An em fi la fo le (1 * 12 + (zr_sn st (i - 1) - 1)) (wo_sg (xf_f wd 1) lo (j - lo)) ∧ xa_An em fi la fo le (1 * 12 + (i - 1)) (wo_sg (xf_f wd 1) j (hi - j))) ↔ j = k))
    {q q1 q2 : Option (Nat × Nat)} (hS : bk_SP tb wd (zr_sn st (i - 1) - 1) (i - 1) q q1 q2) (hA : (q1 = none ∧ bk_a q = -1) ∨ (q1 ≠ none ∧ bk_a q = bk_a q))
    (H : post (xl, xm, xc, xn, xd, nI (h + 2), kd, ag, st, le, ll, lc, em, fi, la, fo, pr, fr, wd, sz, ot, upd (upd tN h (nI (i - 1))) (h + 1) (nI (zr_sn st (i - 1) - 1)), upd (upd tL h (nI k)) (h + 1) (nI lo), upd (upd tH h (nI hi)) (h + 1) (nI k), upd (upd tO h (bk_a q2)) (h + 1) (bk_a q1), upd (upd tP h (bk_b q2)) (h + 1) (bk_b q1))) :
    wpX_backward post (xl, xm, xc, xn, xd, nI h, kd, ag, st, le, ll, lc, em, fi, la, fo, pr, fr, wd, sz, ot, tN, tL, tH, tO, tP) (nI i) (nI lo) (nI hi) (bk_a q) (bk_b q) := by
  have hM := R.1
  have hst := (R.2.2.2.2.2.1 (i - 1) (by omega)).2.2
  unfold wpX_backward
  dsimp only
  rw [xs_cl (by omega : i < 4096), hk, nu_s1 (n := i) b1, xs_cl (by omega : i - 1 < 4096), hst, nu_s1 (n := zr_sn st (i - 1)) b2]
  exact ⟨xs_in (by omega) (by omega), nm_e (br_f (by decide) (br_f (by decide) (br_t rfl ⟨xs_in (by omega) (by omega), xk_split R hh h6 (by omega) (by omega) hlo hhi hu hS hA H⟩)))⟩
theorem xk_b4 {N M C i lo hi h k : Nat} (R : zr_Rel N M C kd ag st le ll lc em fi la fo wd sz tb yk ya bf) (hC : i < C) (hk : kd i = 4) (b1 : 1 ≤ i) (hne : lo < hi) (hh : h + 1 < 64) (h6 : hi ≤ 6) (hlo : lo ≤ k) (hhi : k ≤ hi)
    (hu : ∀ j, lo ≤ j → j ≤ hi → ((xa_An em fi la fo le (1 * 12 + (i - 1)) (wo_sg (xf_f wd 1) lo (j - lo)) ∧ xa_An em fi la fo le (1 * 12 + i) (wo_sg (xf_f wd 1) j (hi - j))) ↔ j = k))
    {q q1 q2 : Option (Nat × Nat)} (hS : bk_SP tb wd (i - 1) i q q1 q2) (hq : ∀ x n, q = some (x, n) → x + n ≤ 6 ∧ (q1 = none ↔ n = 0))
    (H : post (xl, xm, xc, xn, xd, nI (h + 2), kd, ag, st, le, ll, lc, em, fi, la, fo, pr, fr, wd, sz, ot, upd (upd tN h (nI i)) (h + 1) (nI (i - 1)), upd (upd tL h (nI k)) (h + 1) (nI lo), upd (upd tH h (nI hi)) (h + 1) (nI k), upd (upd tO h (bk_a q2)) (h + 1) (bk_a q1), upd (upd tP h (bk_b q2)) (h + 1) (bk_b q1))) :
    wpX_backward post (xl, xm, xc, xn, xd, nI h, kd, ag, st, le, ll, lc, em, fi, la, fo, pr, fr, wd, sz, ot, tN, tL, tH, tO, tP) (nI i) (nI lo) (nI hi) (bk_a q) (bk_b q) := by
  have hM := R.1
  unfold wpX_backward wX_backward_97
  dsimp only
  rw [xs_cl (by omega : i < 4096), hk, nu_s1 (n := i) b1]
  refine ⟨xs_in (by omega) (by omega), nm_e (br_f (by decide) (br_f (by decide) (br_f (by decide) (br_t rfl (br_f (nI_ge hne (by omega)) ?_)))))⟩
  cases q with
  | none =>
    have e1 : q1 = none := by
      rcases hS with ⟨_, h, _⟩ | ⟨x, n, j, h, _⟩ | ⟨x, h, _⟩
      · exact h
      · exact nomatch h
      · exact nomatch h
    exact br_t (show (-1 : Int32) ≤ -1 by decide) (xk_split R hh h6 (by omega) hC hlo hhi hu hS (Or.inl ⟨e1, rfl⟩) H)
  | some p =>
    obtain ⟨x, n⟩ := p
    have ⟨hx, hn⟩ := hq x n rfl
    rcases Nat.eq_zero_or_pos n with e | e
    · exact br_t (nI_le (a := x + n) (b := x) (by omega) (by omega)) (xk_split R hh h6 (by omega) hC hlo hhi hu hS (Or.inl ⟨hn.mpr e, rfl⟩) H)
    · exact br_f (nI_ge (a := x) (b := x + n) (by omega) (by omega)) (xk_split R hh h6 (by omega) hC hlo hhi hu hS (Or.inr ⟨fun h => by have := hn.mp h; omega, rfl⟩) H)
theorem xk_b4e {i lo : Nat} {p3 p4 : Int32} (hi12 : i < 12) (hk : kd i = 4) (h6 : lo ≤ 6) (H : post (xl, xm, xc, xn, xd, xt, kd, ag, st, le, ll, lc, em, fi, la, fo, pr, fr, wd, sz, ot, tN, tL, tH, tO, tP)) : wpX_backward post (xl, xm, xc, xn, xd, xt, kd, ag, st, le, ll, lc, em, fi, la, fo, pr, fr, wd, sz, ot, tN, tL, tH, tO, tP) (nI i) (nI lo) (nI lo) p3 p4 := by
  unfold wpX_backward
  dsimp only
  rw [xs_cl (by omega : i < 4096), hk]
  exact ⟨xs_in hi12 (by omega), nm_e (br_f (by decide) (br_f (by decide) (br_f (by decide) (br_t rfl (br_t (nI_le (Nat.le_refl _) (by omega)) (br_f (by decide) H))))))⟩
/-- which branch: inB: the old source is there and not in a -/
def bk_pick (inB Va Vb : Prop) (a b : Nat) (q : Option (Nat × Nat)) (d : Nat) (q' : Option (Nat × Nat)) : Prop :=
  (¬ inB ∧ Va ∧ d = a ∧ q' = q) ∨ (¬ inB ∧ ¬ Va ∧ d = b ∧ q' = none) ∨ (inB ∧ Vb ∧ d = b ∧ q' = q) ∨ (inB ∧ ¬ Vb ∧ d = a ∧ q' = none)
def bk_inB (tb wd : Nat → Int32) (a : Nat) : Option (Nat × Nat) → Prop
  | none => False
  | some p => ¬ zr_T tb 0 a (wo_sg (xf_f wd 0) p.1 p.2)
theorem xk_b5 {N M C i lo len h : Nat} (R : zr_Rel N M C kd ag st le ll lc em fi la fo wd sz tb yk ya bf) (hC : i < C) (hk : kd i = 5) (b1 : 1 ≤ i) (b2 : 1 ≤ zr_sn st (i - 1)) (b3 : zr_sn st (i - 1) ≤ i - 1) (hh : h < 64) (h6 : lo + len ≤ 6) {q : Option (Nat × Nat)} (hq : ∀ x n, q = some (x, n) → x + n ≤ 6)
    (H : ∀ (d : Nat) (q' : Option (Nat × Nat)), bk_pick (bk_inB tb wd (zr_sn st (i - 1) - 1) q) (zr_T tb 1 (zr_sn st (i - 1) - 1) (wo_sg (xf_f wd 1) lo len)) (zr_T tb 1 (i - 1) (wo_sg (xf_f wd 1) lo len)) (zr_sn st (i - 1) - 1) (i - 1) q d q' →
      post (xl, xm, xc, xn, xd, nI (h + 1), kd, ag, st, le, ll, lc, em, fi, la, fo, pr, fr, wd, sz, ot, upd tN h (nI d), upd tL h (nI lo), upd tH h (nI (lo + len)), upd tO h (bk_a q'), upd tP h (bk_b q'))) :
    wpX_backward post (xl, xm, xc, xn, xd, nI h, kd, ag, st, le, ll, lc, em, fi, la, fo, pr, fr, wd, sz, ot, tN, tL, tH, tO, tP) (nI i) (nI lo) (nI (lo + len)) (bk_a q) (bk_b q) := by
  have hM := R.1
  have hW := R.2.2.1
  have hst := (R.2.2.2.2.2.1 (i - 1) (by omega)).2.2
  generalize hB : zr_sn st (i - 1) = B at *
  have hA : ∀ s j, s < 2 → j < C → xa_In (zr_sn st j) j em fi la fo (s * 12 + j) := fun s j hs hj => (R.2.2.2.2.2.2.2 j hj s hs).1
  have hT : ∀ s j x n, s < 2 → j < C → x + n ≤ 6 → (xa_An em fi la fo le (s * 12 + j) (wo_sg (xf_f wd s) x n) ↔ zr_T tb s j (wo_sg (xf_f wd s) x n)) := fun s j x n hs hj hx =>
    (R.2.2.2.2.2.2.2 j hj s hs).2 _ (xf_V hW hs hx) (by rw [wo_sgL]; omega)
  have h10 : ¬ (1 : Int32) = 0 := by decide
  /- the last step -/
  have fin : ∀ (home other : Nat), home < C → other < C → (zr_T tb 1 home (wo_sg (xf_f wd 1) lo len) → post (xl, xm, xc, xn, xd, nI (h + 1), kd, ag, st, le, ll, lc, em, fi, la, fo, pr, fr, wd, sz, ot, upd tN h (nI home), upd tL h (nI lo), upd tH h (nI (lo + len)), upd tO h (bk_a q), upd tP h (bk_b q))) →
      (¬ zr_T tb 1 home (wo_sg (xf_f wd 1) lo len) → post (xl, xm, xc, xn, xd, nI (h + 1), kd, ag, st, le, ll, lc, em, fi, la, fo, pr, fr, wd, sz, ot, upd tN h (nI other), upd tL h (nI lo), upd tH h (nI (lo + len)), upd tO h (bk_a none), upd tP h (bk_b none))) →
      wX_backwardUnion_68 post (nI lo) (nI (lo + len)) (bk_a q) (bk_b q) (nI home) (nI other) xl xm xc xn xd (nI h) kd ag st le ll lc em fi la fo pr fr wd sz ot tN tL tH tO tP := by
    intro home other h1 h2 H1 H0
    unfold wX_backwardUnion_68
    refine xf_acc (s := 1) h6 (by omega) (by omega) (by omega) hW (hA 1 home (by omega) h1) ?_ ?_
    · intro hx
      rw [show lo + len - lo = len by omega] at hx
      exact br_f h10 (xr_push hh _ _ _ _ _ (H1 ((hT 1 home lo len (by omega) h1 h6).mp hx)))
    · intro hx
      rw [show lo + len - lo = len by omega] at hx
      exact br_t rfl (xr_push hh _ _ _ _ _ (H0 fun h' => hx ((hT 1 home lo len (by omega) h1 h6).mpr h')))
  unfold wpX_backward wX_backward_116 wpX_backwardUnion
  dsimp only
  unfold wX_backwardUnion_39 wX_backwardUnion_40 wX_backwardUnion_54
  rw [xs_cl (by omega : i < 4096), hk, nu_s1 (n := i) b1]
  refine ⟨xs_in (by omega) (by omega), nm_e (br_f (by decide) (br_f (by decide) (br_f (by decide) (br_f (by decide) (br_t rfl (nm_e ⟨xs_in (by omega) (by omega), ?_⟩))))))⟩
  rw [xs_cl (by omega : i - 1 < 4096), hst]
  refine nm_r (nu_s1 b2) ?_
  have inA : ¬ bk_inB tb wd (B - 1) q → wX_backwardUnion_68 post (nI lo) (nI (lo + len)) (bk_a q) (bk_b q) (nI (B - 1)) (nI (i - 1)) xl xm xc xn xd (nI h) kd ag st le ll lc em fi la fo pr fr wd sz ot tN tL tH tO tP := by
    intro hn
    exact fin (B - 1) (i - 1) (by omega) (by omega) (fun hv => H _ _ (Or.inl ⟨hn, hv, rfl, rfl⟩)) fun hv => H _ none (Or.inr (Or.inl ⟨hn, hv, rfl, rfl⟩))
  have inB : bk_inB tb wd (B - 1) q → wX_backwardUnion_68 post (nI lo) (nI (lo + len)) (bk_a q) (bk_b q) (nI (i - 1)) (nI (B - 1)) xl xm xc xn xd (nI h) kd ag st le ll lc em fi la fo pr fr wd sz ot tN tL tH tO tP := by
    intro hn
    exact fin (i - 1) (B - 1) (by omega) (by omega) (fun hv => H _ _ (Or.inr (Or.inr (Or.inl ⟨hn, hv, rfl, rfl⟩)))) fun hv => H _ none (Or.inr (Or.inr (Or.inr ⟨hn, hv, rfl, rfl⟩)))
  cases q with
  | none => exact br_t nu_n1 (br_t rfl (br_t rfl (inA fun h => h)))
  | some p =>
    obtain ⟨x, n⟩ := p
    have hx := hq x n rfl
    refine br_f (nI_pos (by omega)) ?_
    refine xf_acc (s := 0) (lo := x) (hi := x + n) hx (by omega) (by omega) (by omega) hW (hA 0 (B - 1) (by omega) (by omega)) ?_ ?_
    · intro h
      rw [show x + n - x = n by omega] at h
      exact br_f h10 (br_t rfl (br_t rfl (inA fun h' => h' ((hT 0 (B - 1) x n (by omega) (by omega) hx).mp h))))
    · intro h
      rw [show x + n - x = n by omega] at h
      exact br_t rfl (br_f h10 (br_f h10 (inB fun h' => h ((hT 0 (B - 1) x n (by omega) (by omega) hx).mpr h'))))
theorem xk_pop {n t h i lo hi : Nat} {q : Option (Nat × Nat)} (ht : t < 1000) (hh : h < 64) (e1 : tN h = nI i) (e2 : tL h = nI lo) (e3 : tH h = nI hi) (e4 : tO h = bk_a q) (e5 : tP h = bk_b q)
    (H : wpX_backward (fun u => match u with | (xl, xm, xc, xn, xd, xt, kd, ag, st, le, ll, lc, em, fi, la, fo, pr, fr, wd, sz, ot, tN, tL, tH, tO, tP) => (∀ x1 : Int32, x1 = nI t + 1 → wX_runBackward_31 post n x1 xl xm xc xn xd xt kd ag st le ll lc em fi la fo pr fr wd sz ot tN tL tH tO tP)) (xl, xm, xc, xn, xd, nI h, kd, ag, st, le, ll, lc, em, fi, la, fo, pr, fr, wd, sz, ot, tN, tL, tH, tO, tP) (nI i) (nI lo) (nI hi) (bk_a q) (bk_b q)) : wX_runBackward_31 post (n + 1) (nI t) xl xm xc xn xd (nI (h + 1)) kd ag st le ll lc em fi la fo pr fr wd sz ot tN tL tH tO tP := by
  refine br_f (nI_ge (b := 1000) ht (by omega)) (br_f (nI_nle (by omega) (by omega)) (nm_r (nI_pred h) ?_))
  have iv : vp_in (nI h) 64 := xs_in hh (by omega)
  refine ⟨iv, iv, iv, iv, iv, ?_⟩
  rw [xs_cl (by omega : h < 4096), e1, e2, e3, e4, e5]
  exact H
theorem xk_end {n t : Nat} (ht : t ≤ 1000) (H : post (xl, xm, xc, xn, xd, nI 0, kd, ag, st, le, ll, lc, em, fi, la, fo, pr, fr, wd, sz, ot, tN, tL, tH, tO, tP)) : wX_runBackward_31 post (n + 1) (nI t) xl xm xc xn xd (nI 0) kd ag st le ll lc em fi la fo pr fr wd sz ot tN tL tH tO tP := by
  rcases Nat.lt_or_ge t 1000 with h | h
  · exact br_f (nI_ge (b := 1000) h (by omega)) (br_t (by decide) H)
  · exact br_t (nI_le (a := 1000) h (by omega)) H
end XK
end
section
section YK
variable {yz ym yw yc yt yd yo : Int32} {tb yk ya bf yN yV yS : Nat → Int32} {wd : Nat → Int32} {post : SY → Prop} {qost : Int32 → SY → Prop} {rost : Int32 → Prop}
/-- the pieces of the old source -/
theorem yk_src {N M C a b : Nat} {kd ag st le ll lc em fi la fo sz yk0 ya0 bf0 : Nat → Int32} (R : zr_Rel N M C kd ag st le ll lc em fi la fo wd sz tb yk0 ya0 bf0) (ha : a < C) (hb : b < C) {q q1 q2 : Option (Nat × Nat)} (hS : bk_SP tb wd a b q q1 q2) {Q : Int32 → Int32 → Prop} (H : Q (bk_s wd q1) (bk_s wd q2)) :
    wpY_first (fun r => wpY_rest (fun r' => Q r r') (yz, ym, yw, yc, yt, yd, yo, tb, yk, ya, bf, yN, yV, yS) (bk_s wd q) r) (yz, ym, yw, yc, yt, yd, yo, tb, yk, ya, bf, yN, yV, yS) 0 (nI a) (nI b) (bk_s wd q) := by
  have hM := R.1
  have hW := R.2.2.1
  have h01 := R.2.2.2.1
  rcases hS with ⟨rfl, rfl, rfl⟩ | ⟨x, n, j, rfl, hx, hj, rfl, rfl, hj'⟩ | ⟨x, rfl, rfl, rfl, hx, hn⟩
  · exact yw_firstM (s := 0) (by omega) (yw_restN H)
  · have hy := (fw_hu R (s := 0) (by omega) ha hb hx hj').2
    have hv : wo_V (wo_sg (xf_f wd 0) x n) := xf_V hW (by omega) hx
    have hl : (wo_sg (xf_f wd 0) x n).length = n := wo_sgL _ _ _
    refine yw_first (s := 0) (w := wo_sg (xf_f wd 0) x n) h01 (by omega) (by omega) (by omega) hv (by omega) j (by omega) hy (yw_rest (w := wo_sg (xf_f wd 0) x n) hv (by omega) j (by omega) ?_)
    rw [wo_sgT hj, wo_sgD hj]
    exact H
  · refine yw_firstN (s := 0) (w := []) h01 (by omega) (by omega) (by omega) wo_V0 (by simp) ?_ (yw_restN H)
    intro j _ h
    rw [List.take_nil] at h
    exact hn ⟨wo_V0, by simp, h.1⟩
section BW
variable {J29 : Int32 → Int32 → Int32 → Int32 → Int32 → Int32 → Int32 → Int32 → (Nat → Int32) → (Nat → Int32) → (Nat → Int32) → (Nat → Int32) → (Nat → Int32) → (Nat → Int32) → (Nat → Int32) → Prop} {x3 x5 x6 x7 x8 : Int32} {i : Nat}
theorem yk_312 (hi : i < 12) (n5 : ¬ yk i = 5) (H : J29 (x3 + 1) yz ym yw yc yt yd yo tb yk ya bf yN yV yS) : wY_backward_312 post J29 x3 (nI i) x5 x6 x7 x8 yz ym yw yc yt yd yo tb yk ya bf yN yV yS := by
  unfold wY_backward_312
  rw [xs_cl (by omega : i < 4096)]
  exact ⟨xs_in hi (by omega), br_f n5 (nm_e H)⟩
theorem yk_230 (hi : i < 12) (n4 : ¬ yk i = 4) (H : wY_backward_312 post J29 x3 (nI i) x5 x6 x7 x8 yz ym yw yc yt yd yo tb yk ya bf yN yV yS) : wY_backward_230 post J29 x3 (nI i) x5 x6 x7 x8 yz ym yw yc yt yd yo tb yk ya bf yN yV yS := by
  unfold wY_backward_230
  rw [xs_cl (by omega : i < 4096)]
  exact ⟨xs_in hi (by omega), br_f n4 H⟩
theorem yk_153 (hi : i < 12) (n3 : ¬ yk i = 3) (H : wY_backward_230 post J29 x3 (nI i) x5 x6 x7 x8 yz ym yw yc yt yd yo tb yk ya bf yN yV yS) : wY_backward_153 post J29 x3 (nI i) x5 x6 x7 x8 yz ym yw yc yt yd yo tb yk ya bf yN yV yS := by
  unfold wY_backward_153
  rw [xs_cl (by omega : i < 4096)]
  exact ⟨xs_in hi (by omega), br_f n3 H⟩
theorem yk_119 (hi : i < 12) (n2 : ¬ yk i = 2) (H : wY_backward_153 post J29 x3 (nI i) x5 x6 x7 x8 yz ym yw yc yt yd yo tb yk ya bf yN yV yS) : wY_backward_119 post J29 x3 (nI i) x5 x6 x7 x8 yz ym yw yc yt yd yo tb yk ya bf yN yV yS := by
  unfold wY_backward_119
  rw [xs_cl (by omega : i < 4096)]
  exact ⟨xs_in hi (by omega), br_f n2 H⟩
end BW
theorem yk_pop {sn : Nat → Nat} {n t h i : Nat} {x5 x6 : Int32} (ht : t < 2000) (hh : h < 64) (hi : i < 12) (hst : ∀ j, j < i → ys_St yk sn j) (e1 : yN h = nI i) (e2 : yV h = x5) (e3 : yS h = x6)
    (H : ∀ x8 : Int32, (1 ≤ i → x8 = nI (sn (i - 1)) - 1) → ((yk i = 0 → (wpY_emit (fun u => match u with | (yz, ym, yw, yc, yt, yd, yo, tb, yk, ya, bf, yN, yV, yS) => (wY_backward_119 post (wY_backward_29 post n) (nI t) (nI i) x5 x6 (nI i - 1) x8 yz ym yw yc yt yd yo tb yk ya bf yN yV yS)) (yz, ym, yw, yc, nI h, yd, yo, tb, yk, ya, bf, yN, yV, yS) x5)) ∧ (¬ yk i = 0 → (wY_backward_119 post (wY_backward_29 post n) (nI t) (nI i) x5 x6 (nI i - 1) x8 yz ym yw yc (nI h) yd yo tb yk ya bf yN yV yS)))) :
    wY_backward_29 post (n + 1) (nI t) yz ym yw yc (nI (h + 1)) yd yo tb yk ya bf yN yV yS := by
  refine br_f (nI_ge (b := 2000) ht (by omega)) (br_t (by rw [nu_lt0 (by omega)]; omega) (nm_r (nI_pred h) ?_))
  have iv : vp_in (nI h) 64 := xs_in hh (by omega)
  refine ⟨iv, ?_⟩
  rw [xs_cl (by omega : h < 4096), e1, e2, e3]
  refine nm_e ⟨iv, nm_e ⟨iv, nm_e (nm_e (ys_startP hi hst fun r hr => nm_e ⟨xs_in hi (by omega), ?_⟩))⟩⟩
  rw [xs_cl (by omega : i < 4096)]
  exact H _ fun h => by rw [hr h]
theorem yk_end {n t : Nat} (ht : t ≤ 2000) (H : post (yz, ym, yw, yc, nI 0, yd, yo, tb, yk, ya, bf, yN, yV, yS)) : wY_backward_29 post (n + 1) (nI t) yz ym yw yc (nI 0) yd yo tb yk ya bf yN yV yS := by
  rcases Nat.lt_or_ge t 2000 with h | h
  · exact br_f (nI_ge (b := 2000) h (by omega)) (br_f (by decide) H)
  · exact br_t (nI_le (a := 2000) h (by omega)) H
section K
variable {sn : Nat → Nat} {n t h i N : Nat}
theorem yk_b0 (ht : t < 2000) (hh : h < 64) (hi : i < 12) (hst : ∀ j, j < i → ys_St yk sn j) {x6 : Int32} {w o : List Nat} (e1 : yN h = nI i) (e2 : yV h = nI (wo_cd w)) (e3 : yS h = x6) (hk : yk i = 0) (hN : N ≤ 6) (hO : yr_O N o yo) (hl : o.length < 50000) (hv : wo_V w) (hw : w.length ≤ 6)
    (H : ∀ yo' : Int32, yr_O N (o ++ w) yo' → wY_backward_29 post n (nI (t + 1)) (nI N) ym yw yc (nI h) (nI (o ++ w).length) yo' tb yk ya bf yN yV yS) : wY_backward_29 post (n + 1) (nI t) (nI N) ym yw yc (nI (h + 1)) (nI o.length) yo tb yk ya bf yN yV yS := by
  refine yk_pop ht hh hi hst e1 e2 e3 fun x8 _ => br_t hk (yr_emit hN hO hl hv hw fun yo' ho => ?_)
  have H := H yo' ho
  rw [← nI_1] at H
  exact yk_119 hi (by rw [hk]; decide) (yk_153 hi (by rw [hk]; decide) (yk_230 hi (by rw [hk]; decide) (yk_312 hi (by rw [hk]; decide) H)))
theorem yk_b1 (ht : t < 2000) (hh : h < 64) (hi : i < 12) (hst : ∀ j, j < i → ys_St yk sn j) {x5 x6 : Int32} (e1 : yN h = nI i) (e2 : yV h = x5) (e3 : yS h = x6) (hk : yk i = 1)
    (H : wY_backward_29 post n (nI (t + 1)) yz ym yw yc (nI h) yd yo tb yk ya bf yN yV yS) : wY_backward_29 post (n + 1) (nI t) yz ym yw yc (nI (h + 1)) yd yo tb yk ya bf yN yV yS := by
  refine yk_pop ht hh hi hst e1 e2 e3 fun x8 _ => br_f (by rw [hk]; decide) ?_
  rw [← nI_1] at H
  exact yk_119 hi (by rw [hk]; decide) (yk_153 hi (by rw [hk]; decide) (yk_230 hi (by rw [hk]; decide) (yk_312 hi (by rw [hk]; decide) H)))
theorem yk_b2 (ht : t < 2000) (hh : h < 64) (hi : i < 12) (h1 : 1 ≤ i) (hst : ∀ j, j < i → ys_St yk sn j) (h01 : ys_01 tb) {x5 : Int32} {q : Option (Nat × Nat)} {w o : List Nat} (e1 : yN h = nI i) (e2 : yV h = x5) (e3 : yS h = bk_s wd q) (hk : yk i = 2) (hN : N ≤ 6) (hO : yr_O N o yo) (hl : o.length < 50000) (hW : xf_W wd) (hq : ∀ x n, q = some (x, n) → x + n ≤ 6)
    (hv : wo_V w) (hwl : w.length ≤ 6) (hT : ys_T tb 0 (i - 1) w) (hm : ∀ v, wo_V v → v.length ≤ 6 → ys_T tb 0 (i - 1) v → wo_cd w ≤ wo_cd v)
    (H : ∀ (yo' : Int32) (v : List Nat), (q = none ∧ v = w) ∨ (∃ x n, q = some (x, n) ∧ v = wo_sg (xf_f wd 0) x n) → yr_O N (o ++ v) yo' → wY_backward_29 post n (nI (t + 1)) (nI N) ym yw yc (nI h) (nI (o ++ v).length) yo' tb yk ya bf yN yV yS) : wY_backward_29 post (n + 1) (nI t) (nI N) ym yw yc (nI (h + 1)) (nI o.length) yo tb yk ya bf yN yV yS := by
  refine yk_pop ht hh hi hst e1 e2 e3 fun x8 _ => br_f (by rw [hk]; decide) ?_
  unfold wY_backward_119 wY_backward_147
  rw [xs_cl (by omega : i < 4096), nu_s1 (n := i) h1]
  rw [← nI_1] at H
  refine ⟨xs_in hi (by omega), br_t hk ?_⟩
  have go : ∀ v : List Nat, wo_V v → v.length ≤ 6 → ((q = none ∧ v = w) ∨ (∃ x n, q = some (x, n) ∧ v = wo_sg (xf_f wd 0) x n)) →
      wpY_emit (fun u => match u with | (yz, ym, yw, yc, yt, yd, yo, tb, yk, ya, bf, yN, yV, yS) => (wY_backward_153 post (wY_backward_29 post n) (nI t) (nI i) x5 (bk_s wd q) (nI (i - 1)) x8 yz ym yw yc yt yd yo tb yk ya bf yN yV yS)) (nI N, ym, yw, yc, nI h, nI o.length, yo, tb, yk, ya, bf, yN, yV, yS) (nI (wo_cd v)) := by
    intro v hv hl' hx
    refine yr_emit hN hO hl hv hl' fun yo' ho => ?_
    exact yk_153 hi (by rw [hk]; decide) (yk_230 hi (by rw [hk]; decide) (yk_312 hi (by rw [hk]; decide) (H yo' v hx ho)))
  cases q with
  | none => exact br_f nu_n1' (yw_least h01 (by omega) hv hwl hT hm (go w hv hwl (Or.inl ⟨rfl, rfl⟩)))
  | some p =>
    obtain ⟨x, m⟩ := p
    have hx := hq x m rfl
    have hv' : wo_V (wo_sg (xf_f wd 0) x m) := xf_V hW (by omega) hx
    have hl' : (wo_sg (xf_f wd 0) x m).length ≤ 6 := by rw [wo_sgL]; omega
    have := yw_c6 hv' hl'
    exact br_t (nI_pos' (n := wo_cd (wo_sg (xf_f wd 0) x m)) (by omega)) (go _ hv' hl' (Or.inr ⟨x, m, rfl, rfl⟩))
theorem yk_b3 {M C : Nat} {kd ag st le ll lc em fi la fo sz yk0 ya0 bf0 : Nat → Int32} (R : zr_Rel N M C kd ag st le ll lc em fi la fo wd sz tb yk0 ya0 bf0) (hC : i < C) (ht : t < 2000) (hh : h + 1 < 64) (hst : ∀ j, j < i → ys_St yk sn j) {w : List Nat} {q q1 q2 : Option (Nat × Nat)} (e1 : yN h = nI i) (e2 : yV h = nI (wo_cd w)) (e3 : yS h = bk_s wd q) (hk : yk i = 3) (h1 : 1 ≤ i) (hB : 1 ≤ sn (i - 1)) (hBi : sn (i - 1) ≤ i - 1) (hv : wo_V w) (hw : w.length ≤ 6) (k : Nat) (hkl : k ≤ w.length)
    (hu : ∀ j, j ≤ w.length → ((ys_T tb 1 (sn (i - 1) - 1) (w.take j) ∧ ys_T tb 1 (i - 1) (w.drop j)) ↔ j = k)) (hS : bk_SP tb wd (sn (i - 1) - 1) (i - 1) q q1 q2)
    (H : wY_backward_29 post n (nI (t + 1)) yz ym yw yc (nI (h + 2)) yd yo tb yk ya bf (upd (upd yN h (nI (i - 1))) (h + 1) (nI (sn (i - 1) - 1))) (upd (upd yV h (nI (wo_cd (w.drop k)))) (h + 1) (nI (wo_cd (w.take k)))) (upd (upd yS h (bk_s wd q2)) (h + 1) (bk_s wd q1))) :
    wY_backward_29 post (n + 1) (nI t) yz ym yw yc (nI (h + 1)) yd yo tb yk ya bf yN yV yS := by
  have hM := R.1
  have hi : i < 12 := by omega
  refine yk_pop ht (by omega) hi hst e1 e2 e3 fun x8 hx => br_f (by rw [hk]; decide) (yk_119 hi (by rw [hk]; decide) ?_)
  unfold wY_backward_153
  rw [xs_cl (by omega : i < 4096), hx h1, nu_s1 (n := i) h1, nu_s1 (n := sn (i - 1)) hB]
  refine ⟨xs_in hi (by omega), br_t hk (yw_first (s := 1) R.2.2.2.1 (by omega) (by omega) (by omega) hv hw k hkl hu (yw_rest hv hw k hkl (yk_src R (by omega) (by omega) hS (yr_push (by omega) _ _ _ (yr_push hh _ _ _ ?_)))))⟩
  rw [← nI_1] at H
  exact yk_230 hi (by rw [hk]; decide) (yk_312 hi (by rw [hk]; decide) H)
theorem yk_b4 {M C : Nat} {kd ag st le ll lc em fi la fo sz yk0 ya0 bf0 : Nat → Int32} (R : zr_Rel N M C kd ag st le ll lc em fi la fo wd sz tb yk0 ya0 bf0) (hC : i < C) (ht : t < 2000) (hh : h + 1 < 64) (hst : ∀ j, j < i → ys_St yk sn j) {w : List Nat} {q q1 q2 : Option (Nat × Nat)} (e1 : yN h = nI i) (e2 : yV h = nI (wo_cd w)) (e3 : yS h = bk_s wd q) (hk : yk i = 4) (h1 : 1 ≤ i) (hv : wo_V w) (hw : w.length ≤ 6) (hne : w ≠ []) (k : Nat) (hkl : k ≤ w.length)
    (hu : ∀ j, j ≤ w.length → ((ys_T tb 1 (i - 1) (w.take j) ∧ ys_T tb 1 i (w.drop j)) ↔ j = k)) (hS : bk_SP tb wd (i - 1) i q q1 q2)
    (H : wY_backward_29 post n (nI (t + 1)) yz ym yw yc (nI (h + 2)) yd yo tb yk ya bf (upd (upd yN h (nI i)) (h + 1) (nI (i - 1))) (upd (upd yV h (nI (wo_cd (w.drop k)))) (h + 1) (nI (wo_cd (w.take k)))) (upd (upd yS h (bk_s wd q2)) (h + 1) (bk_s wd q1))) :
    wY_backward_29 post (n + 1) (nI t) yz ym yw yc (nI (h + 1)) yd yo tb yk ya bf yN yV yS := by
  have hM := R.1
  have hi : i < 12 := by omega
  refine yk_pop ht (by omega) hi hst e1 e2 e3 fun x8 hx => br_f (by rw [hk]; decide) (yk_119 hi (by rw [hk]; decide) (yk_153 hi (by rw [hk]; decide) ?_))
  unfold wY_backward_230
  rw [xs_cl (by omega : i < 4096), nu_s1 (n := i) h1]
  have h6 := yw_c6 hv hw
  have hc : wo_cd w ≠ 0 := fun h => hne (wo_z.mp h)
  refine ⟨xs_in hi (by omega), br_t hk (br_f (by rw [nu_le0 (by omega)]; exact hc) (yw_first (s := 1) R.2.2.2.1 (by omega) (by omega) (by omega) hv hw k hkl hu (yw_rest hv hw k hkl (yk_src R (by omega) (by omega) hS (yr_push (by omega) _ _ _ (yr_push hh _ _ _ ?_))))))⟩
  rw [← nI_1] at H
  exact yk_312 hi (by rw [hk]; decide) H
theorem yk_b4e (ht : t < 2000) (hh : h < 64) (hi : i < 12) (hst : ∀ j, j < i → ys_St yk sn j) {x6 : Int32} (e1 : yN h = nI i) (e2 : yV h = nI (wo_cd [])) (e3 : yS h = x6) (hk : yk i = 4)
    (H : wY_backward_29 post n (nI (t + 1)) yz ym yw yc (nI h) yd yo tb yk ya bf yN yV yS) : wY_backward_29 post (n + 1) (nI t) yz ym yw yc (nI (h + 1)) yd yo tb yk ya bf yN yV yS := by
  refine yk_pop ht (by omega) hi hst e1 e2 e3 fun x8 hx => br_f (by rw [hk]; decide) (yk_119 hi (by rw [hk]; decide) (yk_153 hi (by rw [hk]; decide) ?_))
  unfold wY_backward_230
  rw [xs_cl (by omega : i < 4096)]
  rw [← nI_1] at H
  exact ⟨xs_in hi (by omega), br_t hk (br_t (by decide) (yk_312 hi (by rw [hk]; decide) H))⟩
theorem yk_b5 (ht : t < 2000) (hh : h < 64) (hi : i < 12) (hst : ∀ j, j < i → ys_St yk sn j) (h01 : ys_01 tb) (hW : xf_W wd) {w : List Nat} {q : Option (Nat × Nat)} (e1 : yN h = nI i) (e2 : yV h = nI (wo_cd w)) (e3 : yS h = bk_s wd q) (hk : yk i = 5) (h1 : 1 ≤ i) (hB : 1 ≤ sn (i - 1)) (hBi : sn (i - 1) ≤ i - 1) (hv : wo_V w) (hw : w.length ≤ 6) (hq : ∀ x n, q = some (x, n) → x + n ≤ 6)
    (H : ∀ (d : Nat) (q' : Option (Nat × Nat)), bk_pick (bk_inB tb wd (sn (i - 1) - 1) q) (zr_T tb 1 (sn (i - 1) - 1) w) (zr_T tb 1 (i - 1) w) (sn (i - 1) - 1) (i - 1) q d q' →
      wY_backward_29 post n (nI (t + 1)) yz ym yw yc (nI (h + 1)) yd yo tb yk ya bf (upd yN h (nI d)) (upd yV h (nI (wo_cd w))) (upd yS h (bk_s wd q'))) :
    wY_backward_29 post (n + 1) (nI t) yz ym yw yc (nI (h + 1)) yd yo tb yk ya bf yN yV yS := by
  refine yk_pop ht (by omega) hi hst e1 e2 e3 fun x8 hx => br_f (by rw [hk]; decide) (yk_119 hi (by rw [hk]; decide) (yk_153 hi (by rw [hk]; decide) (yk_230 hi (by rw [hk]; decide) ?_)))
  unfold wY_backward_312
  rw [xs_cl (by omega : i < 4096), hx h1, nu_s1 (n := i) h1, nu_s1 (n := sn (i - 1)) hB]
  rw [← nI_1] at H
  refine ⟨xs_in hi (by omega), br_t hk ?_⟩
  have zT : ∀ j, (ys_T tb 1 j w ↔ zr_T tb 1 j w) := fun j => ⟨fun h => ⟨hv, hw, h⟩, fun h => h.2.2⟩
  have inA : ¬ bk_inB tb wd (sn (i - 1) - 1) q → wY_backward_340 post (wY_backward_29 post n) (nI t) (nI (wo_cd w)) (bk_s wd q) (nI (i - 1)) (nI (sn (i - 1) - 1)) yz ym yw yc (nI h) yd yo tb yk ya bf yN yV yS := by
    intro hn
    unfold wY_backward_340
    refine ys_has (s := 1) h01 (by omega) (by omega) hv hw ?_ ?_
    · intro hx
      exact br_f (by decide) (yr_push hh _ _ _ (nm_e (H _ _ (Or.inl ⟨hn, (zT _).mp hx, rfl, rfl⟩))))
    · intro hx
      exact br_t rfl (yr_push hh _ _ _ (nm_e (H _ none (Or.inr (Or.inl ⟨hn, fun h' => hx ((zT _).mpr h'), rfl, rfl⟩)))))
  cases q with
  | none => exact br_t nu_n1 (inA fun h => h)
  | some p =>
    obtain ⟨x, m⟩ := p
    have hx := hq x m rfl
    have hv' : wo_V (wo_sg (xf_f wd 0) x m) := xf_V hW (by omega) hx
    have hl' : (wo_sg (xf_f wd 0) x m).length ≤ 6 := by rw [wo_sgL]; omega
    have h6 := yw_c6 hv' hl'
    refine br_f (nI_pos (n := wo_cd (wo_sg (xf_f wd 0) x m)) (by omega)) ?_
    refine ys_has (s := 0) (w := wo_sg (xf_f wd 0) x m) h01 (by omega) (by omega) hv' hl' ?_ ?_
    · intro hx
      exact br_f (by decide) (inA fun h' => h' ⟨hv', hl', hx⟩)
    · intro hx
      have hn : bk_inB tb wd (sn (i - 1) - 1) (some (x, m)) := fun h' => hx h'.2.2
      refine br_t rfl (ys_has (s := 1) h01 (by omega) (by omega) hv hw ?_ ?_)
      · intro hy
        exact br_f (by decide) (yr_push hh _ _ _ (nm_e (H _ (some (x, m)) (Or.inr (Or.inr (Or.inl ⟨hn, (zT _).mp hy, rfl, rfl⟩))))))
      · intro hy
        exact br_t rfl (yr_push hh _ _ _ (nm_e (H _ none (Or.inr (Or.inr (Or.inr ⟨hn, fun h' => hy ((zT _).mpr h'), rfl, rfl⟩))))))
end K
end YK
end
section
section BK
def bk_X (N M C : Nat) (xn : Int32) (kd ag st le ll lc em fi la fo pr fr wd sz : Nat → Int32) (i lo hi : Nat) (q : Option (Nat × Nat)) (o : List Nat) (c : Nat) : Prop :=
  ∀ (post : SX → Prop) (n t h : Nat) (o0 : List Nat) (ot tN tL tH tO tP : Nat → Int32), h + i ≤ 11 → t + c ≤ 1000 → o0.length ≤ 6 * t → tN h = nI i → tL h = nI lo → tH h = nI hi → tO h = bk_a q → tP h = bk_b q → xr_O o0 ot →
    (∀ ot' tN' tL' tH' tO' tP' : Nat → Int32, xr_F h tN tL tH tO tP tN' tL' tH' tO' tP' → xr_O (o0 ++ o) ot' → wX_runBackward_31 post n (nI (t + c)) (nI N) (nI M) (nI C) xn (nI (o0 ++ o).length) (nI h) kd ag st le ll lc em fi la fo pr fr wd sz ot' tN' tL' tH' tO' tP') →
    wX_runBackward_31 post (n + c) (nI t) (nI N) (nI M) (nI C) xn (nI o0.length) (nI (h + 1)) kd ag st le ll lc em fi la fo pr fr wd sz ot tN tL tH tO tP
def bk_Y (N M C : Nat) (wd tb yk ya bf : Nat → Int32) (i : Nat) (w : List Nat) (q : Option (Nat × Nat)) (o : List Nat) (c : Nat) : Prop :=
  ∀ (post : SY → Prop) (n t h : Nat) (o0 : List Nat) (yo : Int32) (yN yV yS : Nat → Int32), h + i ≤ 11 → t + c ≤ 1000 → o0.length ≤ 6 * t → yN h = nI i → yV h = nI (wo_cd w) → yS h = bk_s wd q → yr_O N o0 yo →
    (∀ (yo' : Int32) (yN' yV' yS' : Nat → Int32), yr_F h yN yV yS yN' yV' yS' → yr_O N (o0 ++ o) yo' → wY_backward_29 post n (nI (t + c)) (nI N) (nI M) (nI (wo_ws N)) (nI C) (nI h) (nI (o0 ++ o).length) yo' tb yk ya bf yN' yV' yS') →
    wY_backward_29 post (n + c) (nI t) (nI N) (nI M) (nI (wo_ws N)) (nI C) (nI (h + 1)) (nI o0.length) yo tb yk ya bf yN yV yS
section XQ
variable {N M C : Nat} {xn : Int32} {kd ag st le ll lc em fi la fo pr fr wd sz : Nat → Int32}
theorem bk_seqX {i a b lo k hi c1 c2 : Nat} {q q1 q2 : Option (Nat × Nat)} {o1 o2 : List Nat} (ha : a + 1 ≤ i) (hb : b ≤ i) (l1 : o1.length ≤ 6 * c1)
    (A : bk_X N M C xn kd ag st le ll lc em fi la fo pr fr wd sz a lo k q1 o1 c1) (B : bk_X N M C xn kd ag st le ll lc em fi la fo pr fr wd sz b k hi q2 o2 c2)
    (step : ∀ (post : SX → Prop) (xd : Int32) (h : Nat) (ot tN tL tH tO tP : Nat → Int32), h + 1 < 64 →
      post (nI N, nI M, nI C, xn, xd, nI (h + 2), kd, ag, st, le, ll, lc, em, fi, la, fo, pr, fr, wd, sz, ot, upd (upd tN h (nI b)) (h + 1) (nI a), upd (upd tL h (nI k)) (h + 1) (nI lo), upd (upd tH h (nI hi)) (h + 1) (nI k), upd (upd tO h (bk_a q2)) (h + 1) (bk_a q1), upd (upd tP h (bk_b q2)) (h + 1) (bk_b q1)) →
      wpX_backward post (nI N, nI M, nI C, xn, xd, nI h, kd, ag, st, le, ll, lc, em, fi, la, fo, pr, fr, wd, sz, ot, tN, tL, tH, tO, tP) (nI i) (nI lo) (nI hi) (bk_a q) (bk_b q)) : bk_X N M C xn kd ag st le ll lc em fi la fo pr fr wd sz i lo hi q (o1 ++ o2) (1 + c1 + c2) := by
  intro post n t h o0 ot tN tL tH tO tP hh ht hl e1 e2 e3 e4 e5 hO H
  rw [show n + (1 + c1 + c2) = (n + c2 + c1) + 1 by omega]
  refine xk_pop (by omega) (by omega) e1 e2 e3 e4 e5 (step _ _ h ot tN tL tH tO tP (by omega) (nm_r (nI_1 t) ?_))
  refine A post (n + c2) (t + 1) (h + 1) o0 _ _ _ _ _ _ (by omega) (by omega) (by omega) nu_us nu_us nu_us nu_us nu_us hO ?_
  intro ot1 tN1 tL1 tH1 tO1 tP1 F1 hO1
  have f := F1 h (by omega)
  refine B post n (t + 1 + c1) h (o0 ++ o1) ot1 tN1 tL1 tH1 tO1 tP1 (by omega) (by omega) (by rw [List.length_append]; omega) ?_ ?_ ?_ ?_ ?_ hO1 ?_
  · rw [f.1, nu_un (by omega), nu_us]
  · rw [f.2.1, nu_un (by omega), nu_us]
  · rw [f.2.2.1, nu_un (by omega), nu_us]
  · rw [f.2.2.2.1, nu_un (by omega), nu_us]
  · rw [f.2.2.2.2, nu_un (by omega), nu_us]
  · intro ot2 tN2 tL2 tH2 tO2 tP2 F2 hO2
    rw [List.append_assoc] at hO2 ⊢
    rw [show t + 1 + c1 + c2 = t + (1 + c1 + c2) by omega]
    exact H ot2 tN2 tL2 tH2 tO2 tP2 (xr_Ft (xr_Ft (xr_Ft (xr_Fu (Nat.le_refl h)) (xr_Fu (Nat.le_succ h))) (xr_Fl F1 (Nat.le_succ h))) F2) hO2
theorem bk_oneX {i d lo hi c1 : Nat} {q q' : Option (Nat × Nat)} {o1 : List Nat} (hd : d + 1 ≤ i)
    (A : bk_X N M C xn kd ag st le ll lc em fi la fo pr fr wd sz d lo hi q' o1 c1)
    (step : ∀ (post : SX → Prop) (xd : Int32) (h : Nat) (ot tN tL tH tO tP : Nat → Int32), h < 64 →
      post (nI N, nI M, nI C, xn, xd, nI (h + 1), kd, ag, st, le, ll, lc, em, fi, la, fo, pr, fr, wd, sz, ot, upd tN h (nI d), upd tL h (nI lo), upd tH h (nI hi), upd tO h (bk_a q'), upd tP h (bk_b q')) →
      wpX_backward post (nI N, nI M, nI C, xn, xd, nI h, kd, ag, st, le, ll, lc, em, fi, la, fo, pr, fr, wd, sz, ot, tN, tL, tH, tO, tP) (nI i) (nI lo) (nI hi) (bk_a q) (bk_b q)) : bk_X N M C xn kd ag st le ll lc em fi la fo pr fr wd sz i lo hi q o1 (1 + c1) := by
  intro post n t h o0 ot tN tL tH tO tP hh ht hl e1 e2 e3 e4 e5 hO H
  rw [show n + (1 + c1) = (n + c1) + 1 by omega]
  refine xk_pop (by omega) (by omega) e1 e2 e3 e4 e5 (step _ _ h ot tN tL tH tO tP (by omega) (nm_r (nI_1 t) ?_))
  refine A post n (t + 1) h o0 _ _ _ _ _ _ (by omega) (by omega) (by omega) nu_us nu_us nu_us nu_us nu_us hO ?_
  intro ot1 tN1 tL1 tH1 tO1 tP1 F1 hO1
  rw [show t + 1 + c1 = t + (1 + c1) by omega]
  exact H ot1 tN1 tL1 tH1 tO1 tP1 (xr_Ft (xr_Fu (Nat.le_refl h)) F1) hO1
theorem bk_leafX {i lo hi : Nat} {q : Option (Nat × Nat)} {o1 : List Nat}
    (step : ∀ (post : SX → Prop) (xt : Int32) (o : List Nat) (ot tN tL tH tO tP : Nat → Int32), o.length < 40000 → xr_O o ot →
      (∀ ot' : Nat → Int32, xr_O (o ++ o1) ot' → post (nI N, nI M, nI C, xn, nI (o ++ o1).length, xt, kd, ag, st, le, ll, lc, em, fi, la, fo, pr, fr, wd, sz, ot', tN, tL, tH, tO, tP)) →
      wpX_backward post (nI N, nI M, nI C, xn, nI o.length, xt, kd, ag, st, le, ll, lc, em, fi, la, fo, pr, fr, wd, sz, ot, tN, tL, tH, tO, tP) (nI i) (nI lo) (nI hi) (bk_a q) (bk_b q)) : bk_X N M C xn kd ag st le ll lc em fi la fo pr fr wd sz i lo hi q o1 1 := by
  intro post n t h o0 ot tN tL tH tO tP hh ht hl e1 e2 e3 e4 e5 hO H
  refine xk_pop (by omega) (by omega) e1 e2 e3 e4 e5 (step _ _ o0 ot tN tL tH tO tP (by omega) hO fun ot' hO' => nm_r (nI_1 t) ?_)
  exact H ot' tN tL tH tO tP xr_Fr hO'
end XQ
section YQ
variable {N M C : Nat} {wd tb yk ya bf : Nat → Int32}
theorem bk_seqY {i a b c1 c2 : Nat} {w p r o1 o2 : List Nat} {q q1 q2 : Option (Nat × Nat)} (ha : a + 1 ≤ i) (hb : b ≤ i) (l1 : o1.length ≤ 6 * c1)
    (A : bk_Y N M C wd tb yk ya bf a p q1 o1 c1) (B : bk_Y N M C wd tb yk ya bf b r q2 o2 c2)
    (step : ∀ (post : SY → Prop) (n t h : Nat) (yd yo : Int32) (yN yV yS : Nat → Int32), t < 2000 → h + 1 < 64 → yN h = nI i → yV h = nI (wo_cd w) → yS h = bk_s wd q →
      wY_backward_29 post n (nI (t + 1)) (nI N) (nI M) (nI (wo_ws N)) (nI C) (nI (h + 2)) yd yo tb yk ya bf (upd (upd yN h (nI b)) (h + 1) (nI a)) (upd (upd yV h (nI (wo_cd r))) (h + 1) (nI (wo_cd p))) (upd (upd yS h (bk_s wd q2)) (h + 1) (bk_s wd q1)) →
      wY_backward_29 post (n + 1) (nI t) (nI N) (nI M) (nI (wo_ws N)) (nI C) (nI (h + 1)) yd yo tb yk ya bf yN yV yS) : bk_Y N M C wd tb yk ya bf i w q (o1 ++ o2) (1 + c1 + c2) := by
  intro post n t h o0 yo yN yV yS hh ht hl e1 e2 e3 hO H
  rw [show n + (1 + c1 + c2) = (n + c2 + c1) + 1 by omega]
  refine step _ _ t h _ _ yN yV yS (by omega) (by omega) e1 e2 e3 ?_
  refine A post (n + c2) (t + 1) (h + 1) o0 _ _ _ _ (by omega) (by omega) (by omega) nu_us nu_us nu_us hO ?_
  intro yo1 yN1 yV1 yS1 F1 hO1
  have f := F1 h (by omega)
  refine B post n (t + 1 + c1) h (o0 ++ o1) yo1 yN1 yV1 yS1 (by omega) (by omega) (by rw [List.length_append]; omega) ?_ ?_ ?_ hO1 ?_
  · rw [f.1, nu_un (by omega), nu_us]
  · rw [f.2.1, nu_un (by omega), nu_us]
  · rw [f.2.2, nu_un (by omega), nu_us]
  · intro yo2 yN2 yV2 yS2 F2 hO2
    rw [List.append_assoc] at hO2 ⊢
    rw [show t + 1 + c1 + c2 = t + (1 + c1 + c2) by omega]
    exact H yo2 yN2 yV2 yS2 (yr_Ft (yr_Ft (yr_Ft (yr_Fu (Nat.le_refl h)) (yr_Fu (Nat.le_succ h))) (yr_Fl F1 (Nat.le_succ h))) F2) hO2
theorem bk_oneY {i d c1 : Nat} {w o1 : List Nat} {q q' : Option (Nat × Nat)} (hd : d + 1 ≤ i) (A : bk_Y N M C wd tb yk ya bf d w q' o1 c1)
    (step : ∀ (post : SY → Prop) (n t h : Nat) (yd yo : Int32) (yN yV yS : Nat → Int32), t < 2000 → h < 64 → yN h = nI i → yV h = nI (wo_cd w) → yS h = bk_s wd q →
      wY_backward_29 post n (nI (t + 1)) (nI N) (nI M) (nI (wo_ws N)) (nI C) (nI (h + 1)) yd yo tb yk ya bf (upd yN h (nI d)) (upd yV h (nI (wo_cd w))) (upd yS h (bk_s wd q')) →
      wY_backward_29 post (n + 1) (nI t) (nI N) (nI M) (nI (wo_ws N)) (nI C) (nI (h + 1)) yd yo tb yk ya bf yN yV yS) : bk_Y N M C wd tb yk ya bf i w q o1 (1 + c1) := by
  intro post n t h o0 yo yN yV yS hh ht hl e1 e2 e3 hO H
  rw [show n + (1 + c1) = (n + c1) + 1 by omega]
  refine step _ _ t h _ _ yN yV yS (by omega) (by omega) e1 e2 e3 ?_
  refine A post n (t + 1) h o0 _ _ _ _ (by omega) (by omega) (by omega) nu_us nu_us nu_us hO ?_
  intro yo1 yN1 yV1 yS1 F1 hO1
  rw [show t + 1 + c1 = t + (1 + c1) by omega]
  exact H yo1 yN1 yV1 yS1 (yr_Ft (yr_Fu (Nat.le_refl h)) F1) hO1
theorem bk_leafY {i : Nat} {w o1 : List Nat} {q : Option (Nat × Nat)}
    (step : ∀ (post : SY → Prop) (n t h : Nat) (o : List Nat) (yo : Int32) (yN yV yS : Nat → Int32), t < 2000 → h < 64 → o.length < 50000 → yN h = nI i → yV h = nI (wo_cd w) → yS h = bk_s wd q → yr_O N o yo →
      (∀ yo' : Int32, yr_O N (o ++ o1) yo' → wY_backward_29 post n (nI (t + 1)) (nI N) (nI M) (nI (wo_ws N)) (nI C) (nI h) (nI (o ++ o1).length) yo' tb yk ya bf yN yV yS) →
      wY_backward_29 post (n + 1) (nI t) (nI N) (nI M) (nI (wo_ws N)) (nI C) (nI (h + 1)) (nI o.length) yo tb yk ya bf yN yV yS) : bk_Y N M C wd tb yk ya bf i w q o1 1 := by
  intro post n t h o0 yo yN yV yS hh ht hl e1 e2 e3 hO H
  exact step _ _ t h o0 yo yN yV yS (by omega) (by omega) (by omega) e1 e2 e3 hO fun yo' ho => H yo' yN yV yS yr_Fr ho
end YQ
def bk_Out (N M C : Nat) (xn : Int32) (kd ag st le ll lc em fi la fo pr fr wd sz tb yk ya bf : Nat → Int32) (i lo len : Nat) (q : Option (Nat × Nat)) : Prop :=
  ∃ o c, wo_V o ∧ o.length ≤ 6 * c ∧ c ≤ 2 * (i - zr_sn st i + 1) * max len 1 ∧ (kd i = 4 → len = 0 → c = 1) ∧
    bk_X N M C xn kd ag st le ll lc em fi la fo pr fr wd sz i lo (lo + len) q o c ∧ bk_Y N M C wd tb yk ya bf i (wo_sg (xf_f wd 1) lo len) q o c
theorem bk_ok6 {tb wd : Nat → Int32} {i : Nat} {q : Option (Nat × Nat)} (h : bk_ok tb wd i q) : ∀ x n, q = some (x, n) → x + n ≤ 6 := by
  rintro x n rfl
  exact h.1
section MAIN
variable {N M C : Nat} {xn : Int32} {kd ag st le ll lc em fi la fo pr fr wd sz tb yk ya bf : Nat → Int32}
/-- stretches of the old source have at most N letters -/
def bk_N (N : Nat) : Option (Nat × Nat) → Prop
  | none => True
  | some p => p.1 + p.2 ≤ N
theorem bk_sp3 (R : zr_Rel N M C kd ag st le ll lc em fi la fo wd sz tb yk ya bf) {i : Nat} (hi : i < C) (hk : kd i = 3) {q : Option (Nat × Nat)} (h : bk_ok tb wd i q) (hN : bk_N N q) :
    ∃ q1 q2, bk_SP tb wd (zr_sn st (i - 1) - 1) (i - 1) q q1 q2 ∧ bk_ok tb wd (zr_sn st (i - 1) - 1) q1 ∧ bk_ok tb wd (i - 1) q2 ∧ bk_N N q1 ∧ bk_N N q2 ∧ ((q1 = none ∧ bk_a q = -1) ∨ (q1 ≠ none ∧ bk_a q = bk_a q)) := by
  have hM := R.1
  have ⟨p1, p2⟩ := (R.2.2.2.2.2.2.1 i hi).2.2.2.1 hk 0 (by omega)
  cases q with
  | none => exact ⟨none, none, Or.inl ⟨rfl, rfl, rfl⟩, trivial, trivial, trivial, trivial, Or.inl ⟨rfl, rfl⟩⟩
  | some p =>
    obtain ⟨x, n⟩ := p
    obtain ⟨hx, hT⟩ := h
    have hx : x + n ≤ 6 := hx
    have hN : x + n ≤ N := hN
    have hv : wo_V (wo_sg (xf_f wd 0) x n) := xf_V R.2.2.1 (by omega) hx
    have hln : (wo_sg (xf_f wd 0) x n).length = n := wo_sgL _ _ _
    obtain ⟨k, hkl, hu⟩ := fw_uni ((p1 _ hv (by omega)).mp hT) (p2 _ hv (by omega))
    have ⟨g1, g2⟩ := (hu k hkl).mpr rfl
    rw [hln] at hkl
    rw [wo_sgT hkl] at g1
    rw [wo_sgD hkl] at g2
    refine ⟨some (x, k), some (x + k, n - k), Or.inr (Or.inl ⟨x, n, k, rfl, hx, hkl, rfl, rfl, hu⟩), ⟨by show x + k ≤ 6; omega, g1⟩, ⟨by show x + k + (n - k) ≤ 6; omega, g2⟩, by show x + k ≤ N; omega, by show x + k + (n - k) ≤ N; omega, Or.inr ⟨(fun h => nomatch h), rfl⟩⟩
theorem bk_sp4 (R : zr_Rel N M C kd ag st le ll lc em fi la fo wd sz tb yk ya bf) {i : Nat} (hi : i < C) (hk : kd i = 4) {q : Option (Nat × Nat)} (h : bk_ok tb wd i q) (hN : bk_N N q) :
    ∃ q1 q2, bk_SP tb wd (i - 1) i q q1 q2 ∧ bk_ok tb wd (i - 1) q1 ∧ bk_ok tb wd i q2 ∧ bk_N N q1 ∧ bk_N N q2 ∧ ∀ x n, q = some (x, n) → x + n ≤ 6 ∧ (q1 = none ↔ n = 0) := by
  have hM := R.1
  have ⟨p0, p1, p2⟩ := (R.2.2.2.2.2.2.1 i hi).2.2.2.2.1 hk 0 (by omega)
  cases q with
  | none => exact ⟨none, none, Or.inl ⟨rfl, rfl, rfl⟩, trivial, trivial, trivial, trivial, fun x n h => nomatch h⟩
  | some p =>
    obtain ⟨x, n⟩ := p
    obtain ⟨hx, hT⟩ := h
    have hx : x + n ≤ 6 := hx
    have hN : x + n ≤ N := hN
    have hv : wo_V (wo_sg (xf_f wd 0) x n) := xf_V R.2.2.1 (by omega) hx
    have hln : (wo_sg (xf_f wd 0) x n).length = n := wo_sgL _ _ _
    rcases Nat.eq_zero_or_pos n with e | e
    · subst e
      refine ⟨none, none, Or.inr (Or.inr ⟨x, rfl, rfl, rfl, by omega, p0⟩), trivial, trivial, trivial, trivial, ?_⟩
      rintro x' n' h
      cases h
      exact ⟨hx, fun _ => rfl, fun _ => rfl⟩
    · have hne : wo_sg (xf_f wd 0) x n ≠ [] := by
        intro h
        rw [h] at hln
        simp at hln
        omega
      obtain ⟨k, hkl, hu⟩ := fw_uni (((p1 _ hv (by omega)).mp hT).resolve_left hne) (p2 _ hv (by omega))
      have ⟨g1, g2⟩ := (hu k hkl).mpr rfl
      rw [hln] at hkl
      rw [wo_sgT hkl] at g1
      rw [wo_sgD hkl] at g2
      refine ⟨some (x, k), some (x + k, n - k), Or.inr (Or.inl ⟨x, n, k, rfl, hx, hkl, rfl, rfl, hu⟩), ⟨by show x + k ≤ 6; omega, g1⟩, ⟨by show x + k + (n - k) ≤ 6; omega, g2⟩, by show x + k ≤ N; omega, by show x + k + (n - k) ≤ N; omega, ?_⟩
      rintro x' n' h
      cases h
      exact ⟨hx, (fun h => nomatch h), fun h => by omega⟩
theorem bk_main (R : zr_Rel N M C kd ag st le ll lc em fi la fo wd sz tb yk ya bf) : ∀ i, i < C → ∀ len lo q, lo + len ≤ N → zr_T tb 1 i (wo_sg (xf_f wd 1) lo len) → bk_ok tb wd i q → bk_N N q → bk_Out N M C xn kd ag st le ll lc em fi la fo pr fr wd sz tb yk ya bf i lo len q := by
  have hM := R.1
  have hW := R.2.2.1
  have h01 := R.2.2.2.1
  have hSt := (zr_sle R).1
  have hSl := (zr_sle R).2
  have hySt := (zr_ySt R).1
  intro i
  induction i using Nat.strongRecOn with
  | _ i IH =>
    intro hi len
    induction len using Nat.strongRecOn with
    | _ len ih =>
      intro lo q hlo hT hq hqN
      have hi12 : i < 12 := by omega
      have hP := R.2.2.2.2.2.2.1 i hi
      have hE := R.2.2.2.2.2.1 i hi
      have hs := hSl i hi
      have hv : wo_V (wo_sg (xf_f wd 1) lo len) := xf_V hW (by omega) (by omega)
      have hln : (wo_sg (xf_f wd 1) lo len).length = len := wo_sgL _ _ _
      have hyst : ∀ j, j < i → ys_St yk (zr_sn st) j := fun j hj => hySt j (by omega)
      rcases ys_kd (hSt i hi) with hk | hk | hk | hk | hk | hk
      · -- COPY
        refine ⟨wo_sg (xf_f wd 1) lo len, 1, hv, by omega, fw_c1 (by omega), fun _ _ => rfl, ?_, ?_⟩
        · refine bk_leafX fun post xt o ot tN tL tH tO tP hl hO H => ?_
          refine xk_b0 hi12 hk hO hl (by omega) (by omega) hW ?_
          rw [show lo + len - lo = len by omega]
          exact H
        · refine bk_leafY fun post n t h o yo yN yV yS ht hh hl e1 e2 e3 hO H => ?_
          exact yk_b0 ht hh hi12 hyst e1 e2 e3 (by rw [hE.1, hk]) (by omega) hO hl hv (by omega) H
      · -- INSERT
        refine ⟨[], 1, wo_V0, by simp, fw_c1 (by omega), fun _ _ => rfl, ?_, ?_⟩
        · refine bk_leafX fun post xt o ot tN tL tH tO tP hl hO H => ?_
          rw [List.append_nil] at H
          exact xk_b1 hi12 hk (H ot hO)
        · refine bk_leafY fun post n t h o yo yN yV yS ht hh hl e1 e2 e3 hO H => ?_
          rw [List.append_nil] at H
          exact yk_b1 ht hh hi12 hyst e1 e2 e3 (by rw [hE.1, hk]) (H yo hO)
      · -- ERASE
        have ⟨b1, b2⟩ := ys_una (hSt i hi) (Or.inl hk)
        have hTT := hP.2.2.1 hk
        obtain ⟨w, w1, w2, w3, w4, w5, w6⟩ := hP.2.2.2.2.2.2
        have wl : w.length ≤ 6 := w5.2.1
        have t5 : ys_T tb 0 (i - 1) w := ((hTT w).mp w5).2.2
        have t6 : ∀ v, wo_V v → v.length ≤ 6 → ys_T tb 0 (i - 1) v → wo_cd w ≤ wo_cd v := fun v h1 h2 h3 => w6 v ((hTT v).mpr ⟨h1, h2, h3⟩)
        obtain ⟨o1, v1, l1, u1⟩ : ∃ o1 : List Nat, wo_V o1 ∧ o1.length ≤ 6 ∧ ∀ v, ((q = none ∧ v = w) ∨ (∃ x n, q = some (x, n) ∧ v = wo_sg (xf_f wd 0) x n)) → v = o1 := by
          cases q with
          | none =>
            refine ⟨w, w1, wl, ?_⟩
            rintro v (⟨_, h⟩ | ⟨x, n, h, _⟩)
            · exact h
            · exact nomatch h
          | some p =>
            obtain ⟨x, n⟩ := p
            have hx := bk_ok6 hq x n rfl
            refine ⟨wo_sg (xf_f wd 0) x n, xf_V hW (by omega) hx, by rw [wo_sgL]; omega, ?_⟩
            rintro v (⟨h, _⟩ | ⟨x', n', h, e⟩)
            · exact nomatch h
            · cases h
              exact e
        refine ⟨o1, 1, v1, by omega, fw_c1 (by omega), fun _ _ => rfl, ?_, ?_⟩
        · refine bk_leafX fun post xt o ot tN tL tH tO tP hl hO H => ?_
          refine xk_b2 hi12 hk hO hl hW w1 wl w3 w4 (bk_ok6 hq) fun ot' v hx hO' => ?_
          have e := u1 v hx
          subst e
          exact H ot' hO'
        · refine bk_leafY fun post n t h o yo yN yV yS ht hh hl e1 e2 e3 hO H => ?_
          refine yk_b2 ht hh hi12 b1 hyst h01 e1 e2 e3 (by rw [hE.1, hk]) (by omega) hO hl hW (bk_ok6 hq) w1 wl t5 t6 fun yo' v hx ho => ?_
          have e := u1 v hx
          subst e
          exact H yo' ho
      · -- CONCAT
        have ⟨b1, b2, b3, b4, _⟩ := ys_bin (fun j hj => hSt j (by omega)) (Or.inl hk)
        have ⟨p1, p2⟩ := hP.2.2.2.1 hk 1 (by omega)
        have hsa := hSl (zr_sn st (i - 1) - 1) (by omega)
        obtain ⟨k, hkl, hu⟩ := fw_uni ((p1 _ hv (by omega)).mp hT) (p2 _ hv (by omega))
        have ⟨hx, hy⟩ := fw_hu R (s := 1) (by omega) (by omega) (by omega) (by omega) hu
        have ⟨g1, g2⟩ := (hu k hkl).mpr rfl
        rw [hln] at hkl
        rw [wo_sgT hkl] at g1
        rw [wo_sgD hkl] at g2
        obtain ⟨q1, q2, hS, ok1, ok2, n1, n2, hA⟩ := bk_sp3 R hi hk hq hqN
        obtain ⟨o1, c1, v1, l1, r1, _, X1, Y1⟩ := IH (zr_sn st (i - 1) - 1) (by omega) (by omega) k lo q1 (by omega) g1 ok1 n1
        obtain ⟨o2, c2, v2, l2, r2, _, X2, Y2⟩ := IH (i - 1) (by omega) (by omega) (len - k) (lo + k) q2 (by omega) g2 ok2 n2
        rw [show lo + k + (len - k) = lo + len by omega] at X2
        refine ⟨o1 ++ o2, 1 + c1 + c2, wo_Va.mpr ⟨v1, v2⟩, by rw [List.length_append]; omega, ?_, fun h => by rw [hk] at h; exact absurd h (by decide), ?_, ?_⟩
        · have := fw_c3 r1 r2
          rw [show k + (len - k) = len by omega] at this
          rw [b4, show i - zr_sn st (zr_sn st (i - 1) - 1) + 1 = zr_sn st (i - 1) - 1 - zr_sn st (zr_sn st (i - 1) - 1) + 1 + (i - 1 - zr_sn st (i - 1) + 1) + 1 by omega]
          exact this
        · refine bk_seqX (by omega) (by omega) l1 X1 X2 fun post xd h ot tN tL tH tO tP hh H => ?_
          exact xk_b3 R hi hk b1 b2 b3 hh (by omega) (by omega) (by omega) hx hS hA H
        · refine bk_seqY (by omega) (by omega) l1 Y1 Y2 fun post n t h yd yo yN yV yS ht hh e1 e2 e3 H => ?_
          have H' := yk_b3 (post := post) (yz := nI N) (ym := nI M) (yw := nI (wo_ws N)) (yc := nI C) (yd := yd) (yo := yo) (yk := yk) (ya := ya) (bf := bf) R hi ht hh hyst e1 e2 e3 (by rw [hE.1, hk]) b1 b2 b3 hv (by omega) k (by omega) hy hS (n := n)
          rw [wo_sgT hkl, wo_sgD hkl] at H'
          exact H' H
      · -- ITERATE
        have ⟨b1, b2⟩ := ys_una (hSt i hi) (Or.inr hk)
        have ⟨p0, p1, p2⟩ := hP.2.2.2.2.1 hk 1 (by omega)
        have hs1 := hSl (i - 1) (by omega)
        rcases Nat.eq_zero_or_pos len with h0 | h0
        · subst h0
          refine ⟨[], 1, wo_V0, by simp, fw_c1 (by omega), fun _ _ => rfl, ?_, ?_⟩
          · refine bk_leafX fun post xt o ot tN tL tH tO tP hl hO H => ?_
            rw [List.append_nil] at H
            exact xk_b4e hi12 hk (by omega) (H ot hO)
          · refine bk_leafY fun post n t h o yo yN yV yS ht hh hl e1 e2 e3 hO H => ?_
            rw [List.append_nil] at H
            exact yk_b4e ht hh hi12 hyst e1 e2 e3 (by rw [hE.1, hk]) (H yo hO)
        · have hne : wo_sg (xf_f wd 1) lo len ≠ [] := by
            intro h
            rw [h] at hln
            simp at hln
            omega
          have hsp := ((p1 _ hv (by omega)).mp hT).resolve_left hne
          obtain ⟨k, hkl, hu⟩ := fw_uni hsp (p2 _ hv (by omega))
          have ⟨hx, hy⟩ := fw_hu R (s := 1) (by omega) (by omega) (by omega) (by omega) hu
          have ⟨g1, g2⟩ := (hu k hkl).mpr rfl
          rw [hln] at hkl
          rw [wo_sgT hkl] at g1
          rw [wo_sgD hkl] at g2
          have hk1 : 1 ≤ k := by
            rcases Nat.eq_zero_or_pos k with e | e
            · subst e
              exact absurd g1 p0
            · exact e
          obtain ⟨q1, q2, hS, ok1, ok2, n1, n2, hA⟩ := bk_sp4 R hi hk hq hqN
          obtain ⟨o1, c1, v1, l1, r1, _, X1, Y1⟩ := IH (i - 1) (by omega) (by omega) k lo q1 (by omega) g1 ok1 n1
          obtain ⟨o2, c2, v2, l2, r2, r3, X2, Y2⟩ := ih (len - k) (by omega) (lo + k) q2 (by omega) g2 ok2 n2
          rw [show lo + k + (len - k) = lo + len by omega] at X2
          refine ⟨o1 ++ o2, 1 + c1 + c2, wo_Va.mpr ⟨v1, v2⟩, by rw [List.length_append]; omega, ?_, fun _ h => by omega, ?_, ?_⟩
          · have := fw_c4 (sa := i - 1 - zr_sn st (i - 1) + 1) (c2 := c2) (r := len - k) hk1 r1 (by
              rcases Nat.eq_zero_or_pos (len - k) with e | e
              · exact Or.inl ⟨e, r3 hk e⟩
              · refine Or.inr ⟨e, ?_⟩
                rw [b2, show i - zr_sn st (i - 1) + 1 = i - 1 - zr_sn st (i - 1) + 1 + 1 by omega] at r2
                exact r2)
            rw [show k + (len - k) = len by omega] at this
            rw [b2, show i - zr_sn st (i - 1) + 1 = i - 1 - zr_sn st (i - 1) + 1 + 1 by omega]
            exact this
          · refine bk_seqX (by omega) (by omega) l1 X1 X2 fun post xd h ot tN tL tH tO tP hh H => ?_
            exact xk_b4 R hi hk b1 (by omega) hh (by omega) (by omega) (by omega) hx hS hA H
          · refine bk_seqY (by omega) (by omega) l1 Y1 Y2 fun post n t h yd yo yN yV yS ht hh e1 e2 e3 H => ?_
            have H' := yk_b4 (post := post) (yz := nI N) (ym := nI M) (yw := nI (wo_ws N)) (yc := nI C) (yd := yd) (yo := yo) (yk := yk) (ya := ya) (bf := bf) R hi ht hh hyst e1 e2 e3 (by rw [hE.1, hk]) b1 hv (by omega) hne k (by omega) hy hS (n := n)
            rw [wo_sgT hkl, wo_sgD hkl] at H'
            exact H' H
      · -- UNION
        have ⟨b1, b2, b3, b4, _⟩ := ys_bin (fun j hj => hSt j (by omega)) (Or.inr hk)
        have p1 := hP.2.2.2.2.2.1 hk 1 (by omega) (wo_sg (xf_f wd 1) lo len)
        have p10 := hP.2.2.2.2.2.1 hk 0 (by omega)
        have hsa := hSl (zr_sn st (i - 1) - 1) (by omega)
        have go : ∀ (d : Nat) (q' : Option (Nat × Nat)), (d = zr_sn st (i - 1) - 1 ∨ d = i - 1) → zr_T tb 1 d (wo_sg (xf_f wd 1) lo len) → bk_ok tb wd d q' → bk_N N q' →
            (∀ d' q'', bk_pick (bk_inB tb wd (zr_sn st (i - 1) - 1) q) (zr_T tb 1 (zr_sn st (i - 1) - 1) (wo_sg (xf_f wd 1) lo len)) (zr_T tb 1 (i - 1) (wo_sg (xf_f wd 1) lo len)) (zr_sn st (i - 1) - 1) (i - 1) q d' q'' → d' = d ∧ q'' = q') →
            bk_Out N M C xn kd ag st le ll lc em fi la fo pr fr wd sz tb yk ya bf i lo len q := by
          intro d q' hd hTd hok hN' huniq
          have hdi : d + 1 ≤ i := by omega
          have hds := hSl d (by omega)
          obtain ⟨o1, c1, v1, l1, r1, _, X1, Y1⟩ := IH d (by omega) (by omega) len lo q' (by omega) hTd hok hN'
          have hsz : d - zr_sn st d + 1 + 1 ≤ i - zr_sn st i + 1 := by
            rw [b4]
            rcases hd with e | e
            · rw [e]; omega
            · rw [e]; omega
          refine ⟨o1, 1 + c1, v1, by omega, fw_c5 r1 hsz, fun h => by rw [hk] at h; exact absurd h (by decide), ?_, ?_⟩
          · refine bk_oneX hdi X1 fun post xd h ot tN tL tH tO tP hh H => ?_
            refine xk_b5 R hi hk b1 b2 b3 hh (by omega) (bk_ok6 hq) fun d' q'' hp => ?_
            obtain ⟨rfl, rfl⟩ := huniq d' q'' hp
            exact H
          · refine bk_oneY hdi Y1 fun post n t h yd yo yN yV yS ht hh e1 e2 e3 H => ?_
            refine yk_b5 ht hh hi12 hyst h01 hW e1 e2 e3 (by rw [hE.1, hk]) b1 b2 b3 hv (by omega) (bk_ok6 hq) fun d' q'' hp => ?_
            obtain ⟨rfl, rfl⟩ := huniq d' q'' hp
            exact H
        have okA : ¬ bk_inB tb wd (zr_sn st (i - 1) - 1) q → bk_ok tb wd (zr_sn st (i - 1) - 1) q := by
          intro h
          cases q with
          | none => trivial
          | some p => exact ⟨hq.1, Classical.not_not.mp h⟩
        have okB : bk_inB tb wd (zr_sn st (i - 1) - 1) q → bk_ok tb wd (i - 1) q := by
          intro h
          cases q with
          | none => trivial
          | some p => exact ⟨hq.1, ((p10 _).mp hq.2).resolve_left h⟩
        have hab := p1.mp hT
        by_cases hB : bk_inB tb wd (zr_sn st (i - 1) - 1) q
        · by_cases hVb : zr_T tb 1 (i - 1) (wo_sg (xf_f wd 1) lo len)
          · refine go (i - 1) q (Or.inr rfl) hVb (okB hB) hqN ?_
            rintro d' q'' (⟨h, _⟩ | ⟨h, _⟩ | ⟨_, _, h⟩ | ⟨_, h, _⟩)
            · exact absurd hB h
            · exact absurd hB h
            · exact h
            · exact absurd hVb h
          · refine go (zr_sn st (i - 1) - 1) none (Or.inl rfl) (hab.resolve_right hVb) trivial trivial ?_
            rintro d' q'' (⟨h, _⟩ | ⟨h, _⟩ | ⟨_, h, _⟩ | ⟨_, _, h⟩)
            · exact absurd hB h
            · exact absurd hB h
            · exact absurd h hVb
            · exact h
        · by_cases hVa : zr_T tb 1 (zr_sn st (i - 1) - 1) (wo_sg (xf_f wd 1) lo len)
          · refine go (zr_sn st (i - 1) - 1) q (Or.inl rfl) hVa (okA hB) hqN ?_
            rintro d' q'' (⟨_, _, h⟩ | ⟨_, h, _⟩ | ⟨h, _⟩ | ⟨h, _⟩)
            · exact h
            · exact absurd hVa h
            · exact absurd h hB
            · exact absurd h hB
          · refine go (i - 1) none (Or.inr rfl) (hab.resolve_left hVa) trivial trivial ?_
            rintro d' q'' (⟨_, h, _⟩ | ⟨_, _, h⟩ | ⟨h, _⟩ | ⟨h, _⟩)
            · exact absurd h hVa
            · exact h
            · exact absurd h hB
            · exact absurd h hB
end MAIN
end BK
end
section
section PU
/-- X's and Y's run of the top lens backward, then the delivery, in one: for put and create -/
theorem pu_run {N M C k : Nat} {kd ag st le ll lc em fi la fo pr fr wd sz tb yk ya bf : Nat → Int32} (R : zr_Rel N M C kd ag st le ll lc em fi la fo wd sz tb yk ya bf) (h1 : 1 ≤ C) {m : Nat} (hm : m ≤ N) (e1 : sz 1 = nI m) (e2 : bf 1 = nI (wo_cd (wo_sg (xf_f wd 1) 0 m))) (hT : zr_T tb 1 (C - 1) (wo_sg (xf_f wd 1) 0 m))
    {q : Option (Nat × Nat)} (hq : bk_ok tb wd (C - 1) q) (hqN : bk_N N q) {xd xt : Int32} {ot tN tL tH tO tP : Nat → Int32} {qX : Int32 → SX → Prop} {yt yd yo : Int32} {yN yV yS : Nat → Int32} {YW : (Int32 → SY → Prop) → Prop}
    (hY : ∀ q9 : Int32 → SY → Prop, wpY_backward (fun u => match u with | (yz, ym, yw, yc, yt, yd, yo, tb, yk, ya, bf, yN, yV, yS) => (((yd ≤ yz → (∀ bf' : Nat → Int32, bf' = upd bf 0 yo → (q9 0 (yz, ym, yw, yc, yt, yd, yo, tb, yk, ya, bf', yN, yV, yS)))) ∧ (¬ yd ≤ yz → (q9 8 (yz, ym, yw, yc, yt, yd, yo, tb, yk, ya, bf, yN, yV, yS)))))) (nI N, nI M, nI (wo_ws N), nI C, yt, yd, yo, tb, yk, ya, bf, yN, yV, yS) (bf 1) (bk_s wd q) → YW q9)
    (hX : ∀ (r : Int32) (u : SX), YW (fun r' v' => r' = r ∧ i_Rel k u v') → qX r u) :
    wpX_runBackward (fun u => match u with | (xl, xm, xc, xn, xd, xt, kd, ag, st, le, ll, lc, em, fi, la, fo, pr, fr, wd, sz, ot, tN, tL, tH, tO, tP) => (wpX_deliver (fun r u => match u with | (xl, xm, xc, xn, xd, xt, kd, ag, st, le, ll, lc, em, fi, la, fo, pr, fr, wd, sz, ot, tN, tL, tH, tO, tP) => (qX r (xl, xm, xc, xn, xd, xt, kd, ag, st, le, ll, lc, em, fi, la, fo, pr, fr, wd, sz, ot, tN, tL, tH, tO, tP))) (xl, xm, xc, xn, xd, xt, kd, ag, st, le, ll, lc, em, fi, la, fo, pr, fr, wd, sz, ot, tN, tL, tH, tO, tP) 0)) (nI N, nI M, nI C, nI (ys_dp kd C), xd, xt, kd, ag, st, le, ll, lc, em, fi, la, fo, pr, fr, wd, sz, ot, tN, tL, tH, tO, tP) (bk_a q) (bk_b q) := by
  have hM := R.1
  obtain ⟨o, c, hv, hl, hc, _, FX, FY⟩ := bk_main (xn := nI (ys_dp kd C)) (pr := pr) (fr := fr) R (C - 1) (by omega) m 0 q (by omega) hT hq hqN
  rw [Nat.zero_add] at FX
  have hc := dv_cost (by omega) (by omega) hc
  unfold wpX_runBackward
  dsimp only
  rw [e1, nu_s1 (n := C) h1]
  refine xr_push (h := 0) (by omega) _ _ _ _ _ ?_
  dsimp only
  refine ⟨1 + c, ?_⟩
  refine FX _ 1 0 0 [] ot _ _ _ _ _ (by omega) (by omega) (by simp) nu_us nu_us nu_us nu_us nu_us (fun j _ hj => by simp at hj) ?_
  intro ot1 tN1 tL1 tH1 tO1 tP1 _ hO1
  rw [List.nil_append] at hO1 ⊢
  refine xk_end (n := 0) (by omega) ?_
  dsimp only
  have YY : ∀ q9 : Int32 → SY → Prop, (∀ (yo' : Int32) (yN' yV' yS' : Nat → Int32), yr_O N o yo' → ((nI o.length ≤ nI N → (∀ bf' : Nat → Int32, bf' = upd bf 0 yo' → q9 0 (nI N, nI M, nI (wo_ws N), nI C, nI 0, nI o.length, yo', tb, yk, ya, bf', yN', yV', yS'))) ∧ (¬ nI o.length ≤ nI N → q9 8 (nI N, nI M, nI (wo_ws N), nI C, nI 0, nI o.length, yo', tb, yk, ya, bf, yN', yV', yS')))) → YW q9 := by
    intro q9 H
    refine hY q9 ?_
    unfold wpY_backward
    dsimp only
    rw [e2, nu_s1 (n := C) h1]
    refine yr_push (h := 0) (by omega) _ _ _ ?_
    dsimp only
    refine ⟨1 + c, ?_⟩
    refine FY _ 1 0 0 [] 0 _ _ _ (by omega) (by omega) (by simp) nu_us nu_us nu_us (fun _ => rfl) ?_
    intro yo1 yN1 yV1 yS1 _ hO1
    rw [List.nil_append] at hO1 ⊢
    exact yk_end (n := 0) (by omega) (H yo1 yN1 yV1 yS1 hO1)
  rcases Nat.lt_or_ge N o.length with hN | hN
  · have h8 := nI_ge (a := N) (b := o.length) hN (by omega)
    exact br_f h8 (hX _ _ (YY _ fun yo' yN' yV' yS' _ => br_f h8 ⟨rfl, zr_in rfl R⟩))
  · have h8 := nI_le (a := o.length) (b := N) hN (by omega)
    refine dv_X (s := 0) (by omega) (by omega) hO1 hN fun wd' g1 g2 => hX _ _ ?_
    refine YY _ fun yo' yN' yV' yS' ho => br_t h8 (nm_e ⟨rfl, zr_in rfl ?_⟩)
    rw [ho hN]
    have dB := dv_B (s := 0) (by omega) (by omega) R.2.2.1 R.2.2.2.2.1 hv hN g1 g2
    exact zr_words R dB.1 dB.2
theorem i_vc_create {k : Nat} {u : SX} {v : SY} (I : i_Rel k u v) (hk : k + 3 ≤ 1538) : wpX_create (fun r u' => wpY_create (fun r' v' => r' = r ∧ i_Rel (k + 3) u' v') v) u := by
  refine zr_el (P := fun u v => wpX_create (fun r u' => wpY_create (fun r' v' => r' = r ∧ i_Rel (k + 3) u' v') v) u) ?_ I
  intro N M C xd xt kd ag st le ll lc em fi la fo pr fr wd sz ot tN tL tH tO tP yt yd yo tb yk ya bf yN yV yS R
  have hM := R.1
  have dl := ys_dpl (kd := kd) C
  rcases ze_len R with ⟨h0, d0⟩ | ⟨h1, d1⟩
  · have : ¬ (1 : Int32) ≤ nI (ys_dp kd C) := nI_ge (b := 1) (by omega) (by omega)
    exact br_f this (br_t (by rw [h0]; rfl) ⟨rfl, zr_in rfl R⟩)
  · obtain ⟨m, hm, e1, e2, b, hb, hbT, X, Y⟩ := ze_mem R h1 (s := 1) (by omega)
    refine br_t (nI_le (a := 1) d1 (by omega)) (X _ _ _ _ _ _ _ _ _ _ _ ?_)
    have nC := nI_ne0 (n := C) (by omega) (by omega)
    by_cases hb0 : b = 0
    · exact br_t hb0 (br_f nC (Y _ _ _ _ _ _ _ (br_t hb0 ⟨rfl, zr_in rfl R⟩)))
    · have hT := hbT.mp (hb.resolve_left hb0)
      refine br_f hb0 ?_
      exact pu_run (q := none) (k := k + 3) (yt := yt) (yd := yd) (yo := yo) (yN := yN) (yV := yV) (yS := yS) (YW := fun q9 => wpY_create q9 (nI N, nI M, nI (wo_ws N), nI C, yt, yd, yo, tb, yk, ya, bf, yN, yV, yS)) R h1 hm e1 e2 hT trivial trivial
        (fun q9 H => br_f nC (Y _ _ _ _ _ _ _ (br_f hb0 H))) (fun r u H => H)
theorem i_vc_put {k : Nat} {u : SX} {v : SY} (I : i_Rel k u v) (hk : k + 3 ≤ 1538) : wpX_put (fun r u' => wpY_put (fun r' v' => r' = r ∧ i_Rel (k + 3) u' v') v) u := by
  refine zr_el (P := fun u v => wpX_put (fun r u' => wpY_put (fun r' v' => r' = r ∧ i_Rel (k + 3) u' v') v) u) ?_ I
  intro N M C xd xt kd ag st le ll lc em fi la fo pr fr wd sz ot tN tL tH tO tP yt yd yo tb yk ya bf yN yV yS R
  have hM := R.1
  have dl := ys_dpl (kd := kd) C
  rcases ze_len R with ⟨h0, d0⟩ | ⟨h1, d1⟩
  · have : ¬ (1 : Int32) ≤ nI (ys_dp kd C) := nI_ge (b := 1) (by omega) (by omega)
    exact br_f this (br_t (by rw [h0]; rfl) ⟨rfl, zr_in rfl R⟩)
  · obtain ⟨m, hm, e1, e2, b, hb, hbT, X, Y⟩ := ze_mem R h1 (s := 1) (by omega)
    obtain ⟨m', hm', e1', e2', b', hb', hbT', X', Y'⟩ := ze_mem R h1 (s := 0) (by omega)
    refine br_t (nI_le (a := 1) d1 (by omega)) (X _ _ _ _ _ _ _ _ _ _ _ ?_)
    have nC := nI_ne0 (n := C) (by omega) (by omega)
    by_cases hb0 : b = 0
    · exact br_t hb0 (br_f nC (Y _ _ _ _ _ _ _ (br_t hb0 ⟨rfl, zr_in rfl R⟩)))
    · have hT := hbT.mp (hb.resolve_left hb0)
      refine br_f hb0 (X' _ _ _ _ _ _ _ _ _ _ _ ?_)
      by_cases hb0' : b' = 0
      · exact br_t hb0' (br_f nC (Y _ _ _ _ _ _ _ (br_f hb0 (Y' _ _ _ _ _ _ _ (br_t hb0' ⟨rfl, zr_in rfl R⟩)))))
      · have hT' := hbT'.mp (hb'.resolve_left hb0')
        refine br_f hb0' ?_
        rw [e1']
        have q1 : nI m' = bk_b (some (0, m')) := by
          show nI m' = nI (0 + m')
          rw [Nat.zero_add]
        rw [q1]
        refine pu_run (q := some (0, m')) (k := k + 3) (yt := yt) (yd := yd) (yo := yo) (yN := yN) (yV := yV) (yS := yS) (YW := fun q9 => wpY_put q9 (nI N, nI M, nI (wo_ws N), nI C, yt, yd, yo, tb, yk, ya, bf, yN, yV, yS)) R h1 hm e1 e2 hT ⟨by show 0 + m' ≤ 6; omega, hT'⟩ (by show 0 + m' ≤ N; omega)
          (fun q9 H => br_f nC (Y _ _ _ _ _ _ _ (br_f hb0 (Y' _ _ _ _ _ _ _ (br_f hb0' ?_))))) (fun r u H => H)
        rw [e2']
        exact H
end PU
end
