section
/-! the pure picture: what letters become after some generations -/
def gx_ex (R : Nat → List Nat) : Nat → Nat → List Nat
  | 0, c => [c]
  | l + 1, c => (R c).flatMap (gx_ex R l)
def gx_okR (R : Nat → List Nat) : Prop := ∀ c, c < 6 → (R c).length ≤ 4 ∧ ∀ d, d ∈ R c → d < 6
def gx_okF (F : List Nat) : Prop := 1 ≤ F.length ∧ F.length ≤ 3 ∧ ∀ d, d ∈ F → d < 6
def gx_W (R : Nat → List Nat) (F : List Nat) (n : Nat) : List Nat := F.flatMap (gx_ex R n)
def gx_fx (R : Nat → List Nat) (f : Nat) : List Nat := gx_ex R (f % 13) (f / 13)
def gx_tx (R : Nat → List Nat) (L : List Nat) : List Nat := L.flatMap (gx_fx R)
def gx_sm (f : Nat → Nat) : Nat → Nat
  | 0 => 0
  | k + 1 => gx_sm f k + f k
theorem gx_ex_lt {R : Nat → List Nat} (h : gx_okR R) : ∀ l c, c < 6 → ∀ d, d ∈ gx_ex R l c → d < 6 := by
  intro l
  induction l with
  | zero =>
    intro c hc d hd
    simp only [gx_ex, List.mem_singleton] at hd
    omega
  | succ l ih =>
    intro c hc d hd
    simp only [gx_ex, List.mem_flatMap] at hd
    obtain ⟨a, ha, hd⟩ := hd
    exact ih a ((h c hc).2 a ha) d hd
theorem gx_flat_le {f : Nat → List Nat} {b : Nat} : ∀ (t : List Nat), (∀ d, d ∈ t → (f d).length ≤ b) → (t.flatMap f).length ≤ t.length * b
  | [], _ => by simp
  | a :: t, h => by
    have h1 := h a (by simp)
    have h2 := gx_flat_le t (fun d hd => h d (by simp [hd]))
    simp only [List.flatMap_cons, List.length_append, List.length_cons, Nat.succ_mul]
    omega
theorem gx_ex_len {R : Nat → List Nat} (h : gx_okR R) : ∀ l c, c < 6 → (gx_ex R l c).length ≤ 4 ^ l := by
  intro l
  induction l with
  | zero => intro c hc; simp [gx_ex]
  | succ l ih =>
    intro c hc
    have h1 := gx_flat_le (f := gx_ex R l) (b := 4 ^ l) (R c) (fun d hd => ih d ((h c hc).2 d hd))
    have h2 : (R c).length * 4 ^ l ≤ 4 * 4 ^ l := Nat.mul_le_mul_right _ (h c hc).1
    have h3 : 4 ^ (l + 1) = 4 * 4 ^ l := by rw [Nat.pow_succ, Nat.mul_comm]
    rw [h3]
    exact Nat.le_trans h1 h2
theorem gx_ex_len12 {R : Nat → List Nat} (h : gx_okR R) {l c : Nat} (hl : l ≤ 12) (hc : c < 6) : (gx_ex R l c).length ≤ 16777216 :=
  Nat.le_trans (gx_ex_len h l c hc) (Nat.pow_le_pow_right (n := 4) (by decide) hl)
theorem gx_W_lt {R : Nat → List Nat} {F : List Nat} (h : gx_okR R) (hF : gx_okF F) (n : Nat) : ∀ d, d ∈ gx_W R F n → d < 6 := by
  intro d hd
  simp only [gx_W, List.mem_flatMap] at hd
  obtain ⟨a, ha, hd⟩ := hd
  exact gx_ex_lt h n a (hF.2.2 a ha) d hd
theorem gx_W_len {R : Nat → List Nat} {F : List Nat} (h : gx_okR R) (hF : gx_okF F) {n : Nat} (hn : n ≤ 12) : (gx_W R F n).length ≤ 50331648 := by
  have h1 := gx_flat_le (f := gx_ex R n) (b := 16777216) F (fun d hd => gx_ex_len12 h hn (hF.2.2 d hd))
  have h2 := hF.2.1
  unfold gx_W
  omega
theorem gx_W_len2 {R : Nat → List Nat} {F : List Nat} (h : gx_okR R) (hF : gx_okF F) {n : Nat} (hn : n ≤ 2) : (gx_W R F n).length ≤ 48 := by
  have h1 := gx_flat_le (f := gx_ex R n) (b := 16) F (fun d hd => Nat.le_trans (gx_ex_len h n d (hF.2.2 d hd)) (Nat.pow_le_pow_right (n := 4) (by decide) hn))
  have h2 := hF.2.1
  unfold gx_W
  omega
theorem gx_ex_succ {R : Nat → List Nat} : ∀ l c, gx_ex R (l + 1) c = (gx_ex R l c).flatMap R := by
  intro l
  induction l with
  | zero =>
    intro c
    simp [gx_ex]
  | succ l ih =>
    intro c
    have e : gx_ex R (l + 1) = fun d => (gx_ex R l d).flatMap R := funext ih
    calc gx_ex R (l + 1 + 1) c = (R c).flatMap (gx_ex R (l + 1)) := rfl
      _ = (R c).flatMap (fun d => (gx_ex R l d).flatMap R) := by rw [e]
      _ = ((R c).flatMap (gx_ex R l)).flatMap R := List.flatMap_assoc.symm
      _ = (gx_ex R (l + 1) c).flatMap R := rfl
theorem gx_W_succ {R : Nat → List Nat} {F : List Nat} (n : Nat) : gx_W R F (n + 1) = (gx_W R F n).flatMap R := by
  have e : gx_ex R (n + 1) = fun d => (gx_ex R n d).flatMap R := funext (gx_ex_succ n)
  unfold gx_W
  rw [e, List.flatMap_assoc]
theorem gx_cw (w : Nat → Nat) : ∀ t : List Nat, (∀ d, d ∈ t → d < 6) → gx_sm (fun d => t.count d * w d) 6 = (t.map w).sum
  | [], _ => by simp [gx_sm]
  | a :: t, h => by
    have ha : a < 6 := h a (by simp)
    have ih := gx_cw w t (fun d hd => h d (by simp [hd]))
    simp only [gx_sm] at ih ⊢
    simp only [List.map_cons, List.sum_cons, ← ih, List.count_cons]
    have h6 : a = 0 ∨ a = 1 ∨ a = 2 ∨ a = 3 ∨ a = 4 ∨ a = 5 := by omega
    rcases h6 with rfl | rfl | rfl | rfl | rfl | rfl <;> simp [Nat.add_mul] <;> omega
theorem gx_flat_len (f : Nat → List Nat) : ∀ t : List Nat, (t.flatMap f).length = (t.map (fun d => (f d).length)).sum
  | [] => by simp
  | a :: t => by simp [gx_flat_len f t]
theorem gx_nxt {R : Nat → List Nat} {t : List Nat} (h : ∀ d, d ∈ t → d < 6) : gx_sm (fun d => t.count d * (R d).length) 6 = (t.flatMap R).length := by
  rw [gx_flat_len, ← gx_cw (fun d => (R d).length) t h]
theorem gx_map1 : ∀ t : List Nat, (t.map (fun _ => 1)).sum = t.length
  | [] => by simp
  | a :: t => by simp [gx_map1 t]; omega
theorem gx_cnt {t : List Nat} (h : ∀ d, d ∈ t → d < 6) : gx_sm (fun d => t.count d) 6 = t.length := by
  have h1 := gx_cw (fun _ => 1) t h
  rw [gx_map1] at h1
  simpa using h1
/-! forms: 13 * letter + level -/
theorem gx_fx_form {R : Nat → List Nat} {c l : Nat} (hl : l < 13) : gx_fx R (13 * c + l) = gx_ex R l c := by
  unfold gx_fx
  rw [show (13 * c + l) % 13 = l by omega, show (13 * c + l) / 13 = c by omega]
def gx_ch (ds : List Nat) (l : Nat) : List Nat := ds.map (fun d => 13 * d + l)
def gx_ne (R : Nat → List Nat) (L : List Nat) : List Nat := L.filter (fun f => decide ((gx_fx R f).length ≠ 0))
theorem gx_tx_ne {R : Nat → List Nat} : ∀ L : List Nat, gx_tx R (gx_ne R L) = gx_tx R L
  | [] => rfl
  | f :: L => by
    have ih := gx_tx_ne (R := R) L
    unfold gx_tx gx_ne at ih ⊢
    by_cases h : (gx_fx R f).length = 0
    · have h0 : gx_fx R f = [] := List.eq_nil_of_length_eq_zero h
      rw [List.filter_cons_of_neg (by simp [h]), ih, List.flatMap_cons, h0, List.nil_append]
    · rw [List.filter_cons_of_pos (by simpa using fun e => h (by rw [e]; rfl)), List.flatMap_cons, List.flatMap_cons, ih]
theorem gx_tx_ch {R : Nat → List Nat} {l : Nat} (hl : l < 13) : ∀ ds : List Nat, gx_tx R (gx_ch ds l) = ds.flatMap (gx_ex R l)
  | [] => rfl
  | d :: ds => by
    have ih := gx_tx_ch (R := R) hl ds
    unfold gx_tx gx_ch at ih ⊢
    rw [List.map_cons, List.flatMap_cons, List.flatMap_cons, ih, gx_fx_form hl]
theorem gx_fx_open {R : Nat → List Nat} {f : Nat} (h : f % 13 ≠ 0) : gx_fx R f = gx_tx R (gx_ne R (gx_ch (R (f / 13)) (f % 13 - 1))) := by
  rw [gx_tx_ne, gx_tx_ch (by omega)]
  unfold gx_fx
  obtain ⟨k, hk⟩ : ∃ k, f % 13 = k + 1 := ⟨f % 13 - 1, by omega⟩
  rw [hk]
  rfl
theorem gx_fx_0 {R : Nat → List Nat} {f : Nat} (h : f % 13 = 0) : gx_fx R f = [f / 13] := by
  unfold gx_fx
  rw [h]
  rfl
theorem gx_fx_len {R : Nat → List Nat} (h : gx_okR R) {f : Nat} (hf : f < 78) : (gx_fx R f).length ≤ 16777216 :=
  gx_ex_len12 h (by omega) (by omega)
theorem gx_tx_cons {R : Nat → List Nat} (f : Nat) (L : List Nat) : gx_tx R (f :: L) = gx_fx R f ++ gx_tx R L := rfl
theorem gx_tx_app {R : Nat → List Nat} (L L' : List Nat) : gx_tx R (L ++ L') = gx_tx R L ++ gx_tx R L' := by
  unfold gx_tx
  rw [List.flatMap_append]
end
section
/-! looking for a word: the search's states, over plain lists -/
def gk_dn (Q : Nat → Bool) : Nat → Nat
  | 0 => 0
  | k + 1 => if Q (k + 1) = true then k + 1 else gk_dn Q k
theorem gk_dn_le (Q : Nat → Bool) : ∀ k, gk_dn Q k ≤ k
  | 0 => Nat.le_refl 0
  | k + 1 => by
    unfold gk_dn
    split
    · exact Nat.le_refl _
    · exact Nat.le_succ_of_le (gk_dn_le Q k)
theorem gk_dn_ok {Q : Nat → Bool} (h0 : Q 0 = true) : ∀ k, Q (gk_dn Q k) = true
  | 0 => h0
  | k + 1 => by
    unfold gk_dn
    split
    · assumption
    · exact gk_dn_ok h0 k
theorem gk_dn_max (Q : Nat → Bool) : ∀ k j, gk_dn Q k < j → j ≤ k → Q j = false
  | 0, j, h, h' => absurd h (by omega)
  | k + 1, j, h, h' => by
    unfold gk_dn at h
    split at h
    · omega
    · by_cases e : j = k + 1
      · rw [e]
        simpa using ‹¬ Q (k + 1) = true›
      · exact gk_dn_max Q k j h (by omega)
def gk_Qa (P : List Nat) (s c k : Nat) : Bool := decide (P.take k <:+ P.take s ++ [c])
def gk_af (P : List Nat) (s c : Nat) : Nat := gk_dn (gk_Qa P s c) (s + 1)
def gk_Qr (P : List Nat) (k : Nat) : Bool := decide (P.take k <:+ P)
def gk_rs (P : List Nat) : Nat := gk_dn (gk_Qr P) (P.length - 1)
def gk_st (P : List Nat) (s c : Nat) : Nat := if gk_af P s c = P.length then gk_rs P else gk_af P s c
def gk_ht (P : List Nat) (s c : Nat) : Nat := if gk_af P s c = P.length then 1 else 0
def gk_S (P : List Nat) : Nat → List Nat → Nat
  | s, [] => s
  | s, c :: t => gk_S P (gk_st P s c) t
def gk_H (P : List Nat) : Nat → List Nat → Nat
  | _, [] => 0
  | s, c :: t => gk_ht P s c + gk_H P (gk_st P s c) t
theorem gk_S_app (P : List Nat) : ∀ (t t' : List Nat) (s : Nat), gk_S P s (t ++ t') = gk_S P (gk_S P s t) t'
  | [], _, _ => rfl
  | c :: t, t', s => by
    show gk_S P (gk_st P s c) (t ++ t') = _
    rw [gk_S_app P t t']
    rfl
theorem gk_H_app (P : List Nat) : ∀ (t t' : List Nat) (s : Nat), gk_H P s (t ++ t') = gk_H P s t + gk_H P (gk_S P s t) t'
  | [], t', s => by
    show gk_H P s t' = 0 + gk_H P s t'
    omega
  | c :: t, t', s => by
    show gk_ht P s c + gk_H P (gk_st P s c) (t ++ t') = gk_ht P s c + gk_H P (gk_st P s c) t + gk_H P (gk_S P (gk_st P s c) t) t'
    rw [gk_H_app P t t']
    omega
theorem gk_rs_lt {P : List Nat} (h : 0 < P.length) : gk_rs P < P.length := by
  have := gk_dn_le (gk_Qr P) (P.length - 1)
  unfold gk_rs
  omega
theorem gk_af_le (P : List Nat) (s c : Nat) : gk_af P s c ≤ s + 1 := gk_dn_le _ _
theorem gk_st_lt {P : List Nat} {s c : Nat} (h : s < P.length) : gk_st P s c < P.length := by
  have h1 := gk_af_le P s c
  have h2 := gk_rs_lt (P := P) (by omega)
  unfold gk_st
  split <;> omega
theorem gk_S_lt {P : List Nat} : ∀ (t : List Nat) {s : Nat}, s < P.length → gk_S P s t < P.length
  | [], _, h => h
  | c :: t, s, h => gk_S_lt t (gk_st_lt h)
/-! what a state means -/
def gk_inv (P : List Nat) (s : Nat) (t : List Nat) : Prop := s < P.length ∧ P.take s <:+ t ∧ ∀ k, k < P.length → P.take k <:+ t → k ≤ s
theorem gk_sing {A B : List Nat} {x y : Nat} : A ++ [x] <:+ B ++ [y] ↔ x = y ∧ A <:+ B := by
  rw [List.suffix_concat_iff]
  constructor
  · rintro (h | ⟨t, h, ht⟩)
    · simp at h
    · obtain ⟨h1, h2⟩ := List.append_inj' h rfl
      subst h1
      exact ⟨by simpa using h2, ht⟩
  · rintro ⟨rfl, h⟩
    exact Or.inr ⟨A, rfl, h⟩
theorem gk_take {P : List Nat} {k : Nat} (h : k < P.length) : P.take (k + 1) = P.take k ++ [P.getD k 0] := by
  rw [List.take_succ_eq_append_getElem h, List.getElem_eq_getD 0]
theorem gk_tl {P : List Nat} {k : Nat} (h : k ≤ P.length) : (P.take k).length = k := by
  rw [List.length_take]
  omega
theorem gk_max {P : List Nat} {s c : Nat} {t : List Nat} (h : gk_inv P s t) : P.take (gk_af P s c) <:+ t ++ [c] ∧ ∀ k, k ≤ P.length → P.take k <:+ t ++ [c] → k ≤ gk_af P s c := by
  obtain ⟨hs, ht, hm⟩ := h
  have ha : gk_Qa P s c (gk_af P s c) = true := gk_dn_ok (by simp [gk_Qa]) (s + 1)
  have ha' := of_decide_eq_true ha
  refine ⟨ha'.trans (gk_sing.mpr ⟨rfl, ht⟩), fun k hk hq => ?_⟩
  rcases Nat.lt_or_ge (gk_af P s c) k with hlt | hge
  · exfalso
    obtain ⟨j, rfl⟩ : ∃ j, k = j + 1 := ⟨k - 1, by omega⟩
    rw [gk_take (by omega)] at hq
    obtain ⟨h1, h2⟩ := gk_sing.mp hq
    have hj := hm j (by omega) h2
    have h3 : P.take j <:+ P.take s := List.suffix_of_suffix_length_le h2 ht (by rw [gk_tl (by omega), gk_tl (by omega)]; exact hj)
    have h4 : gk_Qa P s c (j + 1) = true := by
      unfold gk_Qa
      rw [gk_take (by omega)]
      exact decide_eq_true (gk_sing.mpr ⟨h1, h3⟩)
    have h5 := gk_dn_max (gk_Qa P s c) (s + 1) (j + 1) hlt (by omega)
    rw [h4] at h5
    cases h5
  · exact hge
theorem gk_step {P : List Nat} {s c : Nat} {t : List Nat} (h : gk_inv P s t) : gk_inv P (gk_st P s c) (t ++ [c]) ∧ gk_ht P s c = (if P <:+ t ++ [c] then 1 else 0) := by
  obtain ⟨m1, m2⟩ := gk_max (c := c) h
  obtain ⟨hs, ht, hm⟩ := h
  have ha := gk_af_le P s c
  by_cases e : gk_af P s c = P.length
  · have hP : P <:+ t ++ [c] := by
      rw [e, List.take_length] at m1
      exact m1
    have hst : gk_st P s c = gk_rs P := by unfold gk_st; rw [if_pos e]
    have hht : gk_ht P s c = 1 := by unfold gk_ht; rw [if_pos e]
    rw [hst, hht, if_pos hP]
    have hr : gk_Qr P (gk_rs P) = true := gk_dn_ok (by simp [gk_Qr]) (P.length - 1)
    refine ⟨⟨gk_rs_lt (by omega), (of_decide_eq_true hr).trans hP, fun k hk hq => ?_⟩, rfl⟩
    rcases Nat.lt_or_ge (gk_rs P) k with hlt | hge
    · exfalso
      have h3 : P.take k <:+ P := List.suffix_of_suffix_length_le hq hP (by rw [gk_tl (by omega)]; omega)
      have h5 := gk_dn_max (gk_Qr P) (P.length - 1) k hlt (by omega)
      have h4 : gk_Qr P k = true := decide_eq_true h3
      rw [h4] at h5
      cases h5
    · exact hge
  · have hst : gk_st P s c = gk_af P s c := by unfold gk_st; rw [if_neg e]
    have hht : gk_ht P s c = 0 := by unfold gk_ht; rw [if_neg e]
    have hP : ¬ P <:+ t ++ [c] := by
      intro hP
      have := m2 P.length (Nat.le_refl _) (by rw [List.take_length]; exact hP)
      omega
    rw [hst, hht, if_neg hP]
    exact ⟨⟨by omega, m1, fun k hk hq => m2 k (by omega) hq⟩, rfl⟩
theorem gk_inv0 {P : List Nat} (h : 0 < P.length) : gk_inv P 0 [] := by
  refine ⟨h, by simp, fun k hk hq => ?_⟩
  have h1 := List.suffix_nil.mp hq
  have h2 := gk_tl (P := P) (k := k) (by omega)
  rw [h1] at h2
  simp at h2
  omega
/-! how often the word stands in a list -/
def gk_oc (P : List Nat) : List Nat → Nat
  | [] => 0
  | x :: t => (if P <+: x :: t then 1 else 0) + gk_oc P t
theorem gk_oc_snoc {P : List Nat} (hP : P ≠ []) (c : Nat) : ∀ t : List Nat, gk_oc P (t ++ [c]) = gk_oc P t + (if P <:+ t ++ [c] then 1 else 0)
  | [] => by
    show (if P <+: [c] then 1 else 0) + 0 = 0 + (if P <:+ [c] then 1 else 0)
    have h1 : P <+: [c] ↔ P <:+ [c] := by
      constructor
      · intro h
        have h' : P <+: [] ++ [c] := h
        rw [List.prefix_concat_iff] at h'
        rcases h' with h' | h'
        · rw [h']; simp
        · exact absurd (List.prefix_nil.mp h') hP
      · intro h
        rw [List.suffix_cons_iff] at h
        rcases h with h | h
        · rw [h]; exact List.prefix_refl _
        · exact absurd (List.suffix_nil.mp h) hP
    by_cases h : P <:+ [c]
    · rw [if_pos h, if_pos (h1.mpr h)]
    · rw [if_neg h, if_neg (fun z => h (h1.mp z))]
  | x :: t => by
    have ih := gk_oc_snoc hP c t
    show (if P <+: x :: (t ++ [c]) then 1 else 0) + gk_oc P (t ++ [c]) = (if P <+: x :: t then 1 else 0) + gk_oc P t + (if P <:+ x :: (t ++ [c]) then 1 else 0)
    rw [ih]
    have h1 : P <+: x :: (t ++ [c]) ↔ P = x :: (t ++ [c]) ∨ P <+: x :: t := by
      have := List.prefix_concat_iff (l₁ := P) (l₂ := x :: t) (a := c)
      exact this
    have h2 : P <:+ x :: (t ++ [c]) ↔ P = x :: (t ++ [c]) ∨ P <:+ t ++ [c] := List.suffix_cons_iff
    by_cases e : P = x :: (t ++ [c])
    · have n1 : ¬ P <+: x :: t := by
        intro h
        have := h.length_le
        rw [e] at this
        simp at this
        omega
      have n2 : ¬ P <:+ t ++ [c] := by
        intro h
        have := h.length_le
        rw [e] at this
        simp at this
        omega
      rw [if_pos (h1.mpr (Or.inl e)), if_neg n1, if_neg n2, if_pos (h2.mpr (Or.inl e))]
      omega
    · have i1 : P <+: x :: (t ++ [c]) ↔ P <+: x :: t := by
        rw [h1]
        exact ⟨fun h => h.resolve_left e, Or.inr⟩
      have i2 : P <:+ x :: (t ++ [c]) ↔ P <:+ t ++ [c] := by
        rw [h2]
        exact ⟨fun h => h.resolve_left e, Or.inr⟩
      simp only [i1, i2]
      omega
theorem gk_run {P : List Nat} (hP : P ≠ []) : ∀ (t t0 : List Nat) (s : Nat), gk_inv P s t0 → gk_inv P (gk_S P s t) (t0 ++ t) ∧ gk_oc P (t0 ++ t) = gk_oc P t0 + gk_H P s t
  | [], t0, s, h => by
    rw [List.append_nil]
    exact ⟨h, rfl⟩
  | c :: t, t0, s, h => by
    obtain ⟨h1, h2⟩ := gk_step (c := c) h
    have ih := gk_run hP t (t0 ++ [c]) _ h1
    have e : t0 ++ c :: t = t0 ++ [c] ++ t := by simp
    rw [e]
    refine ⟨ih.1, ?_⟩
    rw [ih.2, gk_oc_snoc hP c t0]
    show _ = gk_oc P t0 + (gk_ht P s c + gk_H P (gk_st P s c) t)
    rw [h2]
    omega
theorem gk_HO {P : List Nat} (hP : P ≠ []) (t : List Nat) : gk_H P 0 t = gk_oc P t := by
  have h := (gk_run hP t [] 0 (gk_inv0 (List.length_pos_iff.mpr hP))).2
  rw [List.nil_append] at h
  rw [h]
  show _ = 0 + _
  omega
theorem gk_oc_zero {P : List Nat} (hP : P ≠ []) : ∀ (t : List Nat) (j : Nat), gk_oc P t = 0 → ¬ P <+: t.drop j
  | [], j, _, hp => by
    rw [List.drop_nil] at hp
    exact hP (List.prefix_nil.mp hp)
  | x :: t, 0, h, hp => by
    have hp' : P <+: x :: t := hp
    have h' : (if P <+: x :: t then 1 else 0) + gk_oc P t = 0 := h
    rw [if_pos hp'] at h'
    omega
  | x :: t, j + 1, h, hp => by
    have h' : (if P <+: x :: t then 1 else 0) + gk_oc P t = 0 := h
    exact gk_oc_zero hP t j (by omega) hp
theorem gk_oc_drop {P : List Nat} : ∀ (i : Nat) (t : List Nat), (∀ j, j < i → ¬ P <+: t.drop j) → gk_oc P t = gk_oc P (t.drop i)
  | 0, _, _ => rfl
  | i + 1, [], _ => rfl
  | i + 1, x :: t, h => by
    have h0 : ¬ P <+: x :: t := h 0 (by omega)
    show (if P <+: x :: t then 1 else 0) + gk_oc P t = gk_oc P (t.drop i)
    rw [if_neg h0, gk_oc_drop i t (fun j hj => h (j + 1) (by omega))]
    omega
theorem gk_oc_hit {P : List Nat} (hP : P ≠ []) : ∀ (t : List Nat), P <+: t → gk_oc P t = 1 + gk_oc P (t.drop 1)
  | [], h => absurd (List.prefix_nil.mp h) hP
  | x :: t, h => by
    show (if P <+: x :: t then 1 else 0) + gk_oc P t = 1 + gk_oc P t
    rw [if_pos h]
theorem gk_oc_le {P : List Nat} : ∀ t : List Nat, gk_oc P t ≤ t.length
  | [] => Nat.le_refl 0
  | x :: t => by
    have := gk_oc_le (P := P) t
    show (if P <+: x :: t then 1 else 0) + gk_oc P t ≤ t.length + 1
    split <;> omega
/-- the first end of the word, and where it begins -/
theorem gk_first {P t1 t2 : List Nat} {c : Nat} (hP : P ≠ []) (h0 : gk_H P 0 t1 = 0) (h1 : gk_ht P (gk_S P 0 t1) c ≠ 0) : P.length ≤ t1.length + 1 ∧ P <+: (t1 ++ c :: t2).drop (t1.length + 1 - P.length) ∧ ∀ j, j < t1.length + 1 - P.length → ¬ P <+: (t1 ++ c :: t2).drop j := by
  have hi := (gk_run hP t1 [] 0 (gk_inv0 (List.length_pos_iff.mpr hP))).1
  rw [List.nil_append] at hi
  have hs := (gk_step (c := c) hi).2
  have hsuf : P <:+ t1 ++ [c] := by
    by_cases h : P <:+ t1 ++ [c]
    · exact h
    · rw [if_neg h] at hs
      exact absurd hs h1
  have hle : P.length ≤ t1.length + 1 := by
    have := hsuf.length_le
    simpa using this
  refine ⟨hle, ?_, fun j hj hp => ?_⟩
  · have e : t1 ++ c :: t2 = (t1 ++ [c]) ++ t2 := by simp
    rw [e, List.drop_append_of_le_length (by simp)]
    have e2 := List.suffix_iff_eq_drop.mp hsuf
    rw [List.length_append, List.length_singleton] at e2
    rw [← e2]
    exact List.prefix_append P t2
  · rw [List.drop_append_of_le_length (by omega)] at hp
    have hq : P <+: t1.drop j := List.prefix_of_prefix_length_le hp (List.prefix_append _ _) (by rw [List.length_drop]; omega)
    exact gk_oc_zero hP t1 j (by rw [← gk_HO hP, h0]) hq
/-! the checks of afterLetter and restart, place by place -/
theorem gk_suf {A B : List Nat} : A <:+ B ↔ A.length ≤ B.length ∧ ∀ i, i < A.length → A.getD i 0 = B.getD (B.length - A.length + i) 0 := by
  rw [List.suffix_iff_getElem?]
  constructor
  · rintro ⟨h, w⟩
    refine ⟨h, fun i hi => ?_⟩
    have := w i hi
    rw [show i + B.length - A.length = B.length - A.length + i by omega] at this
    rw [List.getD_eq_getElem?_getD, List.getD_eq_getElem?_getD, this, List.getElem?_eq_getElem hi]
  · rintro ⟨h, w⟩
    refine ⟨h, fun i hi => ?_⟩
    have := w i hi
    rw [show i + B.length - A.length = B.length - A.length + i by omega]
    rw [List.getD_eq_getElem?_getD, List.getD_eq_getElem?_getD, List.getElem?_eq_getElem hi, List.getElem?_eq_getElem (l := B) (show B.length - A.length + i < B.length by omega)] at this
    rw [List.getElem?_eq_getElem (l := B) (show B.length - A.length + i < B.length by omega)]
    exact congrArg some (Eq.symm this)
theorem gk_getD_take {P : List Nat} {s j : Nat} (h : j < s) : (P.take s).getD j 0 = P.getD j 0 := by
  rw [List.getD_eq_getElem?_getD, List.getD_eq_getElem?_getD, List.getElem?_take_of_lt h]
theorem gk_Qa_iff {P : List Nat} {s c k : Nat} (hs : s < P.length) (hk : k ≤ s) : gk_Qa P s c (k + 1) = true ↔ (P.getD k 0 = c ∧ ∀ i, i < k → P.getD i 0 = P.getD (s - k + i) 0) := by
  unfold gk_Qa
  rw [decide_eq_true_iff, gk_take (by omega), gk_sing, gk_suf, gk_tl (by omega), gk_tl (by omega)]
  constructor
  · rintro ⟨h1, h2, h3⟩
    refine ⟨h1, fun i hi => ?_⟩
    have := h3 i hi
    rw [gk_getD_take hi, gk_getD_take (by omega)] at this
    exact this
  · rintro ⟨h1, h3⟩
    refine ⟨h1, hk, fun i hi => ?_⟩
    rw [gk_getD_take hi, gk_getD_take (by omega)]
    exact h3 i hi
theorem gk_Qr_iff {P : List Nat} {k : Nat} (hk : k < P.length) : gk_Qr P k = true ↔ ∀ i, i < k → P.getD i 0 = P.getD (P.length - k + i) 0 := by
  unfold gk_Qr
  rw [decide_eq_true_iff, gk_suf, gk_tl (by omega)]
  constructor
  · rintro ⟨h2, h3⟩ i hi
    have := h3 i hi
    rw [gk_getD_take hi] at this
    exact this
  · intro h3
    refine ⟨by omega, fun i hi => ?_⟩
    rw [gk_getD_take hi]
    exact h3 i hi
end
section
/-! the object's state, place by place (printed by gen03.py) -/
def gw_fs (u : St1) : Int32 := u.1
def gw_kn (u : St1) : Int32 := u.2.1
def gw_pn (u : St1) : Int32 := u.2.2.1
def gw_ps (u : St1) : Int32 := u.2.2.2.1
def gw_fl (u : St1) : Int32 := u.2.2.2.2.2.2.2.2.2.2.2.1
def gw_fr (u : St1) : Int32 := u.2.2.2.2.2.2.2.2.2.2.2.2.1
def gw_bl (u : St1) : Int32 := u.2.2.2.2.2.2.2.2.2.2.2.2.2.1
def gw_br (u : St1) : Int32 := u.2.2.2.2.2.2.2.2.2.2.2.2.2.2.1
def gw_lo (u : St1) : Int32 := u.2.2.2.2.2.2.2.2.2.2.2.2.2.2.2.1
def gw_to (u : St1) : Int32 := u.2.2.2.2.2.2.2.2.2.2.2.2.2.2.2.2.1
def gw_a1 (u : St1) : Nat → Int32 := u.2.2.2.2.2.2.2.2.2.2.2.2.2.2.2.2.2.1
def gw_a2 (u : St1) : Nat → Int32 := u.2.2.2.2.2.2.2.2.2.2.2.2.2.2.2.2.2.2.1
def gw_a3 (u : St1) : Nat → Int32 := u.2.2.2.2.2.2.2.2.2.2.2.2.2.2.2.2.2.2.2.1
def gw_a5 (u : St1) : Nat → Int32 := u.2.2.2.2.2.2.2.2.2.2.2.2.2.2.2.2.2.2.2.2.2.1
def gw_a6 (u : St1) : Nat → Int32 := u.2.2.2.2.2.2.2.2.2.2.2.2.2.2.2.2.2.2.2.2.2.2.1
def gw_a19 (u : St1) : Nat → Int32 := u.2.2.2.2.2.2.2.2.2.2.2.2.2.2.2.2.2.2.2.2.2.2.2.2.2.2.2.2.2.2.2.2.2.2.2.1
def gw_a20 (u : St1) : Nat → Int32 := u.2.2.2.2.2.2.2.2.2.2.2.2.2.2.2.2.2.2.2.2.2.2.2.2.2.2.2.2.2.2.2.2.2.2.2.2.1
def gw_a21 (u : St1) : Nat → Int32 := u.2.2.2.2.2.2.2.2.2.2.2.2.2.2.2.2.2.2.2.2.2.2.2.2.2.2.2.2.2.2.2.2.2.2.2.2.2.1
def gw_a22 (u : St1) : Nat → Int32 := u.2.2.2.2.2.2.2.2.2.2.2.2.2.2.2.2.2.2.2.2.2.2.2.2.2.2.2.2.2.2.2.2.2.2.2.2.2.2.1
def gw_a23 (u : St1) : Nat → Int32 := u.2.2.2.2.2.2.2.2.2.2.2.2.2.2.2.2.2.2.2.2.2.2.2.2.2.2.2.2.2.2.2.2.2.2.2.2.2.2.2.1
def gw_a24 (u : St1) : Nat → Int32 := u.2.2.2.2.2.2.2.2.2.2.2.2.2.2.2.2.2.2.2.2.2.2.2.2.2.2.2.2.2.2.2.2.2.2.2.2.2.2.2.2.1
abbrev gs_tp (u : St1) (t : Nat → Int32) (p : Nat → Int32) : St1 := (u.1, u.2.1, u.2.2.1, u.2.2.2.1, u.2.2.2.2.1, u.2.2.2.2.2.1, u.2.2.2.2.2.2.1, u.2.2.2.2.2.2.2.1, u.2.2.2.2.2.2.2.2.1, u.2.2.2.2.2.2.2.2.2.1, u.2.2.2.2.2.2.2.2.2.2.1, u.2.2.2.2.2.2.2.2.2.2.2.1, u.2.2.2.2.2.2.2.2.2.2.2.2.1, u.2.2.2.2.2.2.2.2.2.2.2.2.2.1, u.2.2.2.2.2.2.2.2.2.2.2.2.2.2.1, u.2.2.2.2.2.2.2.2.2.2.2.2.2.2.2.1, u.2.2.2.2.2.2.2.2.2.2.2.2.2.2.2.2.1, u.2.2.2.2.2.2.2.2.2.2.2.2.2.2.2.2.2.1, u.2.2.2.2.2.2.2.2.2.2.2.2.2.2.2.2.2.2.1, u.2.2.2.2.2.2.2.2.2.2.2.2.2.2.2.2.2.2.2.1, u.2.2.2.2.2.2.2.2.2.2.2.2.2.2.2.2.2.2.2.2.1, u.2.2.2.2.2.2.2.2.2.2.2.2.2.2.2.2.2.2.2.2.2.1, u.2.2.2.2.2.2.2.2.2.2.2.2.2.2.2.2.2.2.2.2.2.2.1, u.2.2.2.2.2.2.2.2.2.2.2.2.2.2.2.2.2.2.2.2.2.2.2.1, u.2.2.2.2.2.2.2.2.2.2.2.2.2.2.2.2.2.2.2.2.2.2.2.2.1, u.2.2.2.2.2.2.2.2.2.2.2.2.2.2.2.2.2.2.2.2.2.2.2.2.2.1, u.2.2.2.2.2.2.2.2.2.2.2.2.2.2.2.2.2.2.2.2.2.2.2.2.2.2.1, u.2.2.2.2.2.2.2.2.2.2.2.2.2.2.2.2.2.2.2.2.2.2.2.2.2.2.2.1, u.2.2.2.2.2.2.2.2.2.2.2.2.2.2.2.2.2.2.2.2.2.2.2.2.2.2.2.2.1, u.2.2.2.2.2.2.2.2.2.2.2.2.2.2.2.2.2.2.2.2.2.2.2.2.2.2.2.2.2.1, u.2.2.2.2.2.2.2.2.2.2.2.2.2.2.2.2.2.2.2.2.2.2.2.2.2.2.2.2.2.2.1, u.2.2.2.2.2.2.2.2.2.2.2.2.2.2.2.2.2.2.2.2.2.2.2.2.2.2.2.2.2.2.2.1, u.2.2.2.2.2.2.2.2.2.2.2.2.2.2.2.2.2.2.2.2.2.2.2.2.2.2.2.2.2.2.2.2.1, u.2.2.2.2.2.2.2.2.2.2.2.2.2.2.2.2.2.2.2.2.2.2.2.2.2.2.2.2.2.2.2.2.2.1, u.2.2.2.2.2.2.2.2.2.2.2.2.2.2.2.2.2.2.2.2.2.2.2.2.2.2.2.2.2.2.2.2.2.2.1, u.2.2.2.2.2.2.2.2.2.2.2.2.2.2.2.2.2.2.2.2.2.2.2.2.2.2.2.2.2.2.2.2.2.2.2.1, u.2.2.2.2.2.2.2.2.2.2.2.2.2.2.2.2.2.2.2.2.2.2.2.2.2.2.2.2.2.2.2.2.2.2.2.2.1, u.2.2.2.2.2.2.2.2.2.2.2.2.2.2.2.2.2.2.2.2.2.2.2.2.2.2.2.2.2.2.2.2.2.2.2.2.2.1, u.2.2.2.2.2.2.2.2.2.2.2.2.2.2.2.2.2.2.2.2.2.2.2.2.2.2.2.2.2.2.2.2.2.2.2.2.2.2.1, t, p, u.2.2.2.2.2.2.2.2.2.2.2.2.2.2.2.2.2.2.2.2.2.2.2.2.2.2.2.2.2.2.2.2.2.2.2.2.2.2.2.2.2)
abbrev gs_a6 (u : St1) (x : Nat → Int32) : St1 := (u.1, u.2.1, u.2.2.1, u.2.2.2.1, u.2.2.2.2.1, u.2.2.2.2.2.1, u.2.2.2.2.2.2.1, u.2.2.2.2.2.2.2.1, u.2.2.2.2.2.2.2.2.1, u.2.2.2.2.2.2.2.2.2.1, u.2.2.2.2.2.2.2.2.2.2.1, u.2.2.2.2.2.2.2.2.2.2.2.1, u.2.2.2.2.2.2.2.2.2.2.2.2.1, u.2.2.2.2.2.2.2.2.2.2.2.2.2.1, u.2.2.2.2.2.2.2.2.2.2.2.2.2.2.1, u.2.2.2.2.2.2.2.2.2.2.2.2.2.2.2.1, u.2.2.2.2.2.2.2.2.2.2.2.2.2.2.2.2.1, u.2.2.2.2.2.2.2.2.2.2.2.2.2.2.2.2.2.1, u.2.2.2.2.2.2.2.2.2.2.2.2.2.2.2.2.2.2.1, u.2.2.2.2.2.2.2.2.2.2.2.2.2.2.2.2.2.2.2.1, u.2.2.2.2.2.2.2.2.2.2.2.2.2.2.2.2.2.2.2.2.1, u.2.2.2.2.2.2.2.2.2.2.2.2.2.2.2.2.2.2.2.2.2.1, x, u.2.2.2.2.2.2.2.2.2.2.2.2.2.2.2.2.2.2.2.2.2.2.2.1, u.2.2.2.2.2.2.2.2.2.2.2.2.2.2.2.2.2.2.2.2.2.2.2.2.1, u.2.2.2.2.2.2.2.2.2.2.2.2.2.2.2.2.2.2.2.2.2.2.2.2.2.1, u.2.2.2.2.2.2.2.2.2.2.2.2.2.2.2.2.2.2.2.2.2.2.2.2.2.2.1, u.2.2.2.2.2.2.2.2.2.2.2.2.2.2.2.2.2.2.2.2.2.2.2.2.2.2.2.1, u.2.2.2.2.2.2.2.2.2.2.2.2.2.2.2.2.2.2.2.2.2.2.2.2.2.2.2.2.1, u.2.2.2.2.2.2.2.2.2.2.2.2.2.2.2.2.2.2.2.2.2.2.2.2.2.2.2.2.2.1, u.2.2.2.2.2.2.2.2.2.2.2.2.2.2.2.2.2.2.2.2.2.2.2.2.2.2.2.2.2.2.1, u.2.2.2.2.2.2.2.2.2.2.2.2.2.2.2.2.2.2.2.2.2.2.2.2.2.2.2.2.2.2.2.1, u.2.2.2.2.2.2.2.2.2.2.2.2.2.2.2.2.2.2.2.2.2.2.2.2.2.2.2.2.2.2.2.2.1, u.2.2.2.2.2.2.2.2.2.2.2.2.2.2.2.2.2.2.2.2.2.2.2.2.2.2.2.2.2.2.2.2.2.1, u.2.2.2.2.2.2.2.2.2.2.2.2.2.2.2.2.2.2.2.2.2.2.2.2.2.2.2.2.2.2.2.2.2.2.1, u.2.2.2.2.2.2.2.2.2.2.2.2.2.2.2.2.2.2.2.2.2.2.2.2.2.2.2.2.2.2.2.2.2.2.2.1, u.2.2.2.2.2.2.2.2.2.2.2.2.2.2.2.2.2.2.2.2.2.2.2.2.2.2.2.2.2.2.2.2.2.2.2.2.1, u.2.2.2.2.2.2.2.2.2.2.2.2.2.2.2.2.2.2.2.2.2.2.2.2.2.2.2.2.2.2.2.2.2.2.2.2.2.1, u.2.2.2.2.2.2.2.2.2.2.2.2.2.2.2.2.2.2.2.2.2.2.2.2.2.2.2.2.2.2.2.2.2.2.2.2.2.2.1, u.2.2.2.2.2.2.2.2.2.2.2.2.2.2.2.2.2.2.2.2.2.2.2.2.2.2.2.2.2.2.2.2.2.2.2.2.2.2.2.1, u.2.2.2.2.2.2.2.2.2.2.2.2.2.2.2.2.2.2.2.2.2.2.2.2.2.2.2.2.2.2.2.2.2.2.2.2.2.2.2.2.1, u.2.2.2.2.2.2.2.2.2.2.2.2.2.2.2.2.2.2.2.2.2.2.2.2.2.2.2.2.2.2.2.2.2.2.2.2.2.2.2.2.2)
abbrev gs_pen (u : St1) (y1 : Int32) (y2 : Int32) (y3 : Int32) (y4 : Int32) (y5 : Int32) (y6 : Int32) (y7 : Int32) : St1 := (u.1, u.2.1, u.2.2.1, u.2.2.2.1, y1, y2, y3, y4, y5, y6, y7, u.2.2.2.2.2.2.2.2.2.2.2.1, u.2.2.2.2.2.2.2.2.2.2.2.2.1, u.2.2.2.2.2.2.2.2.2.2.2.2.2.1, u.2.2.2.2.2.2.2.2.2.2.2.2.2.2.1, u.2.2.2.2.2.2.2.2.2.2.2.2.2.2.2.1, u.2.2.2.2.2.2.2.2.2.2.2.2.2.2.2.2.1, u.2.2.2.2.2.2.2.2.2.2.2.2.2.2.2.2.2.1, u.2.2.2.2.2.2.2.2.2.2.2.2.2.2.2.2.2.2.1, u.2.2.2.2.2.2.2.2.2.2.2.2.2.2.2.2.2.2.2.1, u.2.2.2.2.2.2.2.2.2.2.2.2.2.2.2.2.2.2.2.2.1, u.2.2.2.2.2.2.2.2.2.2.2.2.2.2.2.2.2.2.2.2.2.1, u.2.2.2.2.2.2.2.2.2.2.2.2.2.2.2.2.2.2.2.2.2.2.1, u.2.2.2.2.2.2.2.2.2.2.2.2.2.2.2.2.2.2.2.2.2.2.2.1, u.2.2.2.2.2.2.2.2.2.2.2.2.2.2.2.2.2.2.2.2.2.2.2.2.1, u.2.2.2.2.2.2.2.2.2.2.2.2.2.2.2.2.2.2.2.2.2.2.2.2.2.1, u.2.2.2.2.2.2.2.2.2.2.2.2.2.2.2.2.2.2.2.2.2.2.2.2.2.2.1, u.2.2.2.2.2.2.2.2.2.2.2.2.2.2.2.2.2.2.2.2.2.2.2.2.2.2.2.1, u.2.2.2.2.2.2.2.2.2.2.2.2.2.2.2.2.2.2.2.2.2.2.2.2.2.2.2.2.1, u.2.2.2.2.2.2.2.2.2.2.2.2.2.2.2.2.2.2.2.2.2.2.2.2.2.2.2.2.2.1, u.2.2.2.2.2.2.2.2.2.2.2.2.2.2.2.2.2.2.2.2.2.2.2.2.2.2.2.2.2.2.1, u.2.2.2.2.2.2.2.2.2.2.2.2.2.2.2.2.2.2.2.2.2.2.2.2.2.2.2.2.2.2.2.1, u.2.2.2.2.2.2.2.2.2.2.2.2.2.2.2.2.2.2.2.2.2.2.2.2.2.2.2.2.2.2.2.2.1, u.2.2.2.2.2.2.2.2.2.2.2.2.2.2.2.2.2.2.2.2.2.2.2.2.2.2.2.2.2.2.2.2.2.1, u.2.2.2.2.2.2.2.2.2.2.2.2.2.2.2.2.2.2.2.2.2.2.2.2.2.2.2.2.2.2.2.2.2.2.1, u.2.2.2.2.2.2.2.2.2.2.2.2.2.2.2.2.2.2.2.2.2.2.2.2.2.2.2.2.2.2.2.2.2.2.2.1, u.2.2.2.2.2.2.2.2.2.2.2.2.2.2.2.2.2.2.2.2.2.2.2.2.2.2.2.2.2.2.2.2.2.2.2.2.1, u.2.2.2.2.2.2.2.2.2.2.2.2.2.2.2.2.2.2.2.2.2.2.2.2.2.2.2.2.2.2.2.2.2.2.2.2.2.1, u.2.2.2.2.2.2.2.2.2.2.2.2.2.2.2.2.2.2.2.2.2.2.2.2.2.2.2.2.2.2.2.2.2.2.2.2.2.2.1, u.2.2.2.2.2.2.2.2.2.2.2.2.2.2.2.2.2.2.2.2.2.2.2.2.2.2.2.2.2.2.2.2.2.2.2.2.2.2.2.1, u.2.2.2.2.2.2.2.2.2.2.2.2.2.2.2.2.2.2.2.2.2.2.2.2.2.2.2.2.2.2.2.2.2.2.2.2.2.2.2.2.1, u.2.2.2.2.2.2.2.2.2.2.2.2.2.2.2.2.2.2.2.2.2.2.2.2.2.2.2.2.2.2.2.2.2.2.2.2.2.2.2.2.2)
abbrev gs_run (u : St1) (y1 : Int32) (y2 : Int32) (y3 : Int32) (y4 : Int32) (y5 : Int32) (y6 : Int32) : St1 := (u.1, u.2.1, u.2.2.1, u.2.2.2.1, u.2.2.2.2.1, u.2.2.2.2.2.1, u.2.2.2.2.2.2.1, u.2.2.2.2.2.2.2.1, u.2.2.2.2.2.2.2.2.1, u.2.2.2.2.2.2.2.2.2.1, u.2.2.2.2.2.2.2.2.2.2.1, y1, y2, y3, y4, y5, y6, u.2.2.2.2.2.2.2.2.2.2.2.2.2.2.2.2.2.1, u.2.2.2.2.2.2.2.2.2.2.2.2.2.2.2.2.2.2.1, u.2.2.2.2.2.2.2.2.2.2.2.2.2.2.2.2.2.2.2.1, u.2.2.2.2.2.2.2.2.2.2.2.2.2.2.2.2.2.2.2.2.1, u.2.2.2.2.2.2.2.2.2.2.2.2.2.2.2.2.2.2.2.2.2.1, u.2.2.2.2.2.2.2.2.2.2.2.2.2.2.2.2.2.2.2.2.2.2.1, u.2.2.2.2.2.2.2.2.2.2.2.2.2.2.2.2.2.2.2.2.2.2.2.1, u.2.2.2.2.2.2.2.2.2.2.2.2.2.2.2.2.2.2.2.2.2.2.2.2.1, u.2.2.2.2.2.2.2.2.2.2.2.2.2.2.2.2.2.2.2.2.2.2.2.2.2.1, u.2.2.2.2.2.2.2.2.2.2.2.2.2.2.2.2.2.2.2.2.2.2.2.2.2.2.1, u.2.2.2.2.2.2.2.2.2.2.2.2.2.2.2.2.2.2.2.2.2.2.2.2.2.2.2.1, u.2.2.2.2.2.2.2.2.2.2.2.2.2.2.2.2.2.2.2.2.2.2.2.2.2.2.2.2.1, u.2.2.2.2.2.2.2.2.2.2.2.2.2.2.2.2.2.2.2.2.2.2.2.2.2.2.2.2.2.1, u.2.2.2.2.2.2.2.2.2.2.2.2.2.2.2.2.2.2.2.2.2.2.2.2.2.2.2.2.2.2.1, u.2.2.2.2.2.2.2.2.2.2.2.2.2.2.2.2.2.2.2.2.2.2.2.2.2.2.2.2.2.2.2.1, u.2.2.2.2.2.2.2.2.2.2.2.2.2.2.2.2.2.2.2.2.2.2.2.2.2.2.2.2.2.2.2.2.1, u.2.2.2.2.2.2.2.2.2.2.2.2.2.2.2.2.2.2.2.2.2.2.2.2.2.2.2.2.2.2.2.2.2.1, u.2.2.2.2.2.2.2.2.2.2.2.2.2.2.2.2.2.2.2.2.2.2.2.2.2.2.2.2.2.2.2.2.2.2.1, u.2.2.2.2.2.2.2.2.2.2.2.2.2.2.2.2.2.2.2.2.2.2.2.2.2.2.2.2.2.2.2.2.2.2.2.1, u.2.2.2.2.2.2.2.2.2.2.2.2.2.2.2.2.2.2.2.2.2.2.2.2.2.2.2.2.2.2.2.2.2.2.2.2.1, u.2.2.2.2.2.2.2.2.2.2.2.2.2.2.2.2.2.2.2.2.2.2.2.2.2.2.2.2.2.2.2.2.2.2.2.2.2.1, u.2.2.2.2.2.2.2.2.2.2.2.2.2.2.2.2.2.2.2.2.2.2.2.2.2.2.2.2.2.2.2.2.2.2.2.2.2.2.1, u.2.2.2.2.2.2.2.2.2.2.2.2.2.2.2.2.2.2.2.2.2.2.2.2.2.2.2.2.2.2.2.2.2.2.2.2.2.2.2.1, u.2.2.2.2.2.2.2.2.2.2.2.2.2.2.2.2.2.2.2.2.2.2.2.2.2.2.2.2.2.2.2.2.2.2.2.2.2.2.2.2.1, u.2.2.2.2.2.2.2.2.2.2.2.2.2.2.2.2.2.2.2.2.2.2.2.2.2.2.2.2.2.2.2.2.2.2.2.2.2.2.2.2.2)
abbrev gs_kn (u : St1) (x : Int32) : St1 := (u.1, x, u.2.2.1, u.2.2.2.1, u.2.2.2.2.1, u.2.2.2.2.2.1, u.2.2.2.2.2.2.1, u.2.2.2.2.2.2.2.1, u.2.2.2.2.2.2.2.2.1, u.2.2.2.2.2.2.2.2.2.1, u.2.2.2.2.2.2.2.2.2.2.1, u.2.2.2.2.2.2.2.2.2.2.2.1, u.2.2.2.2.2.2.2.2.2.2.2.2.1, u.2.2.2.2.2.2.2.2.2.2.2.2.2.1, u.2.2.2.2.2.2.2.2.2.2.2.2.2.2.1, u.2.2.2.2.2.2.2.2.2.2.2.2.2.2.2.1, u.2.2.2.2.2.2.2.2.2.2.2.2.2.2.2.2.1, u.2.2.2.2.2.2.2.2.2.2.2.2.2.2.2.2.2.1, u.2.2.2.2.2.2.2.2.2.2.2.2.2.2.2.2.2.2.1, u.2.2.2.2.2.2.2.2.2.2.2.2.2.2.2.2.2.2.2.1, u.2.2.2.2.2.2.2.2.2.2.2.2.2.2.2.2.2.2.2.2.1, u.2.2.2.2.2.2.2.2.2.2.2.2.2.2.2.2.2.2.2.2.2.1, u.2.2.2.2.2.2.2.2.2.2.2.2.2.2.2.2.2.2.2.2.2.2.1, u.2.2.2.2.2.2.2.2.2.2.2.2.2.2.2.2.2.2.2.2.2.2.2.1, u.2.2.2.2.2.2.2.2.2.2.2.2.2.2.2.2.2.2.2.2.2.2.2.2.1, u.2.2.2.2.2.2.2.2.2.2.2.2.2.2.2.2.2.2.2.2.2.2.2.2.2.1, u.2.2.2.2.2.2.2.2.2.2.2.2.2.2.2.2.2.2.2.2.2.2.2.2.2.2.1, u.2.2.2.2.2.2.2.2.2.2.2.2.2.2.2.2.2.2.2.2.2.2.2.2.2.2.2.1, u.2.2.2.2.2.2.2.2.2.2.2.2.2.2.2.2.2.2.2.2.2.2.2.2.2.2.2.2.1, u.2.2.2.2.2.2.2.2.2.2.2.2.2.2.2.2.2.2.2.2.2.2.2.2.2.2.2.2.2.1, u.2.2.2.2.2.2.2.2.2.2.2.2.2.2.2.2.2.2.2.2.2.2.2.2.2.2.2.2.2.2.1, u.2.2.2.2.2.2.2.2.2.2.2.2.2.2.2.2.2.2.2.2.2.2.2.2.2.2.2.2.2.2.2.1, u.2.2.2.2.2.2.2.2.2.2.2.2.2.2.2.2.2.2.2.2.2.2.2.2.2.2.2.2.2.2.2.2.1, u.2.2.2.2.2.2.2.2.2.2.2.2.2.2.2.2.2.2.2.2.2.2.2.2.2.2.2.2.2.2.2.2.2.1, u.2.2.2.2.2.2.2.2.2.2.2.2.2.2.2.2.2.2.2.2.2.2.2.2.2.2.2.2.2.2.2.2.2.2.1, u.2.2.2.2.2.2.2.2.2.2.2.2.2.2.2.2.2.2.2.2.2.2.2.2.2.2.2.2.2.2.2.2.2.2.2.1, u.2.2.2.2.2.2.2.2.2.2.2.2.2.2.2.2.2.2.2.2.2.2.2.2.2.2.2.2.2.2.2.2.2.2.2.2.1, u.2.2.2.2.2.2.2.2.2.2.2.2.2.2.2.2.2.2.2.2.2.2.2.2.2.2.2.2.2.2.2.2.2.2.2.2.2.1, u.2.2.2.2.2.2.2.2.2.2.2.2.2.2.2.2.2.2.2.2.2.2.2.2.2.2.2.2.2.2.2.2.2.2.2.2.2.2.1, u.2.2.2.2.2.2.2.2.2.2.2.2.2.2.2.2.2.2.2.2.2.2.2.2.2.2.2.2.2.2.2.2.2.2.2.2.2.2.2.1, u.2.2.2.2.2.2.2.2.2.2.2.2.2.2.2.2.2.2.2.2.2.2.2.2.2.2.2.2.2.2.2.2.2.2.2.2.2.2.2.2.1, u.2.2.2.2.2.2.2.2.2.2.2.2.2.2.2.2.2.2.2.2.2.2.2.2.2.2.2.2.2.2.2.2.2.2.2.2.2.2.2.2.2)
abbrev gs_st (u : St1) (x : Nat → Int32) : St1 := (u.1, u.2.1, u.2.2.1, u.2.2.2.1, u.2.2.2.2.1, u.2.2.2.2.2.1, u.2.2.2.2.2.2.1, u.2.2.2.2.2.2.2.1, u.2.2.2.2.2.2.2.2.1, u.2.2.2.2.2.2.2.2.2.1, u.2.2.2.2.2.2.2.2.2.2.1, u.2.2.2.2.2.2.2.2.2.2.2.1, u.2.2.2.2.2.2.2.2.2.2.2.2.1, u.2.2.2.2.2.2.2.2.2.2.2.2.2.1, u.2.2.2.2.2.2.2.2.2.2.2.2.2.2.1, u.2.2.2.2.2.2.2.2.2.2.2.2.2.2.2.1, u.2.2.2.2.2.2.2.2.2.2.2.2.2.2.2.2.1, u.2.2.2.2.2.2.2.2.2.2.2.2.2.2.2.2.2.1, u.2.2.2.2.2.2.2.2.2.2.2.2.2.2.2.2.2.2.1, u.2.2.2.2.2.2.2.2.2.2.2.2.2.2.2.2.2.2.2.1, u.2.2.2.2.2.2.2.2.2.2.2.2.2.2.2.2.2.2.2.2.1, u.2.2.2.2.2.2.2.2.2.2.2.2.2.2.2.2.2.2.2.2.2.1, u.2.2.2.2.2.2.2.2.2.2.2.2.2.2.2.2.2.2.2.2.2.2.1, u.2.2.2.2.2.2.2.2.2.2.2.2.2.2.2.2.2.2.2.2.2.2.2.1, u.2.2.2.2.2.2.2.2.2.2.2.2.2.2.2.2.2.2.2.2.2.2.2.2.1, u.2.2.2.2.2.2.2.2.2.2.2.2.2.2.2.2.2.2.2.2.2.2.2.2.2.1, u.2.2.2.2.2.2.2.2.2.2.2.2.2.2.2.2.2.2.2.2.2.2.2.2.2.2.1, u.2.2.2.2.2.2.2.2.2.2.2.2.2.2.2.2.2.2.2.2.2.2.2.2.2.2.2.1, u.2.2.2.2.2.2.2.2.2.2.2.2.2.2.2.2.2.2.2.2.2.2.2.2.2.2.2.2.1, u.2.2.2.2.2.2.2.2.2.2.2.2.2.2.2.2.2.2.2.2.2.2.2.2.2.2.2.2.2.1, u.2.2.2.2.2.2.2.2.2.2.2.2.2.2.2.2.2.2.2.2.2.2.2.2.2.2.2.2.2.2.1, u.2.2.2.2.2.2.2.2.2.2.2.2.2.2.2.2.2.2.2.2.2.2.2.2.2.2.2.2.2.2.2.1, u.2.2.2.2.2.2.2.2.2.2.2.2.2.2.2.2.2.2.2.2.2.2.2.2.2.2.2.2.2.2.2.2.1, u.2.2.2.2.2.2.2.2.2.2.2.2.2.2.2.2.2.2.2.2.2.2.2.2.2.2.2.2.2.2.2.2.2.1, u.2.2.2.2.2.2.2.2.2.2.2.2.2.2.2.2.2.2.2.2.2.2.2.2.2.2.2.2.2.2.2.2.2.2.1, u.2.2.2.2.2.2.2.2.2.2.2.2.2.2.2.2.2.2.2.2.2.2.2.2.2.2.2.2.2.2.2.2.2.2.2.1, x, u.2.2.2.2.2.2.2.2.2.2.2.2.2.2.2.2.2.2.2.2.2.2.2.2.2.2.2.2.2.2.2.2.2.2.2.2.2.1, u.2.2.2.2.2.2.2.2.2.2.2.2.2.2.2.2.2.2.2.2.2.2.2.2.2.2.2.2.2.2.2.2.2.2.2.2.2.2.1, u.2.2.2.2.2.2.2.2.2.2.2.2.2.2.2.2.2.2.2.2.2.2.2.2.2.2.2.2.2.2.2.2.2.2.2.2.2.2.2.1, u.2.2.2.2.2.2.2.2.2.2.2.2.2.2.2.2.2.2.2.2.2.2.2.2.2.2.2.2.2.2.2.2.2.2.2.2.2.2.2.2.1, u.2.2.2.2.2.2.2.2.2.2.2.2.2.2.2.2.2.2.2.2.2.2.2.2.2.2.2.2.2.2.2.2.2.2.2.2.2.2.2.2.2)
abbrev gs_fo (u : St1) (x : Nat → Int32) (y : Nat → Int32) : St1 := (u.1, u.2.1, u.2.2.1, u.2.2.2.1, u.2.2.2.2.1, u.2.2.2.2.2.1, u.2.2.2.2.2.2.1, u.2.2.2.2.2.2.2.1, u.2.2.2.2.2.2.2.2.1, u.2.2.2.2.2.2.2.2.2.1, u.2.2.2.2.2.2.2.2.2.2.1, u.2.2.2.2.2.2.2.2.2.2.2.1, u.2.2.2.2.2.2.2.2.2.2.2.2.1, u.2.2.2.2.2.2.2.2.2.2.2.2.2.1, u.2.2.2.2.2.2.2.2.2.2.2.2.2.2.1, u.2.2.2.2.2.2.2.2.2.2.2.2.2.2.2.1, u.2.2.2.2.2.2.2.2.2.2.2.2.2.2.2.2.1, u.2.2.2.2.2.2.2.2.2.2.2.2.2.2.2.2.2.1, u.2.2.2.2.2.2.2.2.2.2.2.2.2.2.2.2.2.2.1, u.2.2.2.2.2.2.2.2.2.2.2.2.2.2.2.2.2.2.2.1, u.2.2.2.2.2.2.2.2.2.2.2.2.2.2.2.2.2.2.2.2.1, u.2.2.2.2.2.2.2.2.2.2.2.2.2.2.2.2.2.2.2.2.2.1, u.2.2.2.2.2.2.2.2.2.2.2.2.2.2.2.2.2.2.2.2.2.2.1, u.2.2.2.2.2.2.2.2.2.2.2.2.2.2.2.2.2.2.2.2.2.2.2.1, u.2.2.2.2.2.2.2.2.2.2.2.2.2.2.2.2.2.2.2.2.2.2.2.2.1, u.2.2.2.2.2.2.2.2.2.2.2.2.2.2.2.2.2.2.2.2.2.2.2.2.2.1, u.2.2.2.2.2.2.2.2.2.2.2.2.2.2.2.2.2.2.2.2.2.2.2.2.2.2.1, u.2.2.2.2.2.2.2.2.2.2.2.2.2.2.2.2.2.2.2.2.2.2.2.2.2.2.2.1, u.2.2.2.2.2.2.2.2.2.2.2.2.2.2.2.2.2.2.2.2.2.2.2.2.2.2.2.2.1, u.2.2.2.2.2.2.2.2.2.2.2.2.2.2.2.2.2.2.2.2.2.2.2.2.2.2.2.2.2.1, u.2.2.2.2.2.2.2.2.2.2.2.2.2.2.2.2.2.2.2.2.2.2.2.2.2.2.2.2.2.2.1, u.2.2.2.2.2.2.2.2.2.2.2.2.2.2.2.2.2.2.2.2.2.2.2.2.2.2.2.2.2.2.2.1, u.2.2.2.2.2.2.2.2.2.2.2.2.2.2.2.2.2.2.2.2.2.2.2.2.2.2.2.2.2.2.2.2.1, u.2.2.2.2.2.2.2.2.2.2.2.2.2.2.2.2.2.2.2.2.2.2.2.2.2.2.2.2.2.2.2.2.2.1, u.2.2.2.2.2.2.2.2.2.2.2.2.2.2.2.2.2.2.2.2.2.2.2.2.2.2.2.2.2.2.2.2.2.2.1, u.2.2.2.2.2.2.2.2.2.2.2.2.2.2.2.2.2.2.2.2.2.2.2.2.2.2.2.2.2.2.2.2.2.2.2.1, u.2.2.2.2.2.2.2.2.2.2.2.2.2.2.2.2.2.2.2.2.2.2.2.2.2.2.2.2.2.2.2.2.2.2.2.2.1, x, y, u.2.2.2.2.2.2.2.2.2.2.2.2.2.2.2.2.2.2.2.2.2.2.2.2.2.2.2.2.2.2.2.2.2.2.2.2.2.2.2.1, u.2.2.2.2.2.2.2.2.2.2.2.2.2.2.2.2.2.2.2.2.2.2.2.2.2.2.2.2.2.2.2.2.2.2.2.2.2.2.2.2.1, u.2.2.2.2.2.2.2.2.2.2.2.2.2.2.2.2.2.2.2.2.2.2.2.2.2.2.2.2.2.2.2.2.2.2.2.2.2.2.2.2.2)
abbrev gs_rul (u : St1) (x : Nat → Int32) (y : Nat → Int32) : St1 := (u.1, u.2.1, u.2.2.1, u.2.2.2.1, u.2.2.2.2.1, u.2.2.2.2.2.1, u.2.2.2.2.2.2.1, u.2.2.2.2.2.2.2.1, u.2.2.2.2.2.2.2.2.1, u.2.2.2.2.2.2.2.2.2.1, u.2.2.2.2.2.2.2.2.2.2.1, u.2.2.2.2.2.2.2.2.2.2.2.1, u.2.2.2.2.2.2.2.2.2.2.2.2.1, u.2.2.2.2.2.2.2.2.2.2.2.2.2.1, u.2.2.2.2.2.2.2.2.2.2.2.2.2.2.1, u.2.2.2.2.2.2.2.2.2.2.2.2.2.2.2.1, u.2.2.2.2.2.2.2.2.2.2.2.2.2.2.2.2.1, x, y, u.2.2.2.2.2.2.2.2.2.2.2.2.2.2.2.2.2.2.2.1, u.2.2.2.2.2.2.2.2.2.2.2.2.2.2.2.2.2.2.2.2.1, u.2.2.2.2.2.2.2.2.2.2.2.2.2.2.2.2.2.2.2.2.2.1, u.2.2.2.2.2.2.2.2.2.2.2.2.2.2.2.2.2.2.2.2.2.2.1, u.2.2.2.2.2.2.2.2.2.2.2.2.2.2.2.2.2.2.2.2.2.2.2.1, u.2.2.2.2.2.2.2.2.2.2.2.2.2.2.2.2.2.2.2.2.2.2.2.2.1, u.2.2.2.2.2.2.2.2.2.2.2.2.2.2.2.2.2.2.2.2.2.2.2.2.2.1, u.2.2.2.2.2.2.2.2.2.2.2.2.2.2.2.2.2.2.2.2.2.2.2.2.2.2.1, u.2.2.2.2.2.2.2.2.2.2.2.2.2.2.2.2.2.2.2.2.2.2.2.2.2.2.2.1, u.2.2.2.2.2.2.2.2.2.2.2.2.2.2.2.2.2.2.2.2.2.2.2.2.2.2.2.2.1, u.2.2.2.2.2.2.2.2.2.2.2.2.2.2.2.2.2.2.2.2.2.2.2.2.2.2.2.2.2.1, u.2.2.2.2.2.2.2.2.2.2.2.2.2.2.2.2.2.2.2.2.2.2.2.2.2.2.2.2.2.2.1, u.2.2.2.2.2.2.2.2.2.2.2.2.2.2.2.2.2.2.2.2.2.2.2.2.2.2.2.2.2.2.2.1, u.2.2.2.2.2.2.2.2.2.2.2.2.2.2.2.2.2.2.2.2.2.2.2.2.2.2.2.2.2.2.2.2.1, u.2.2.2.2.2.2.2.2.2.2.2.2.2.2.2.2.2.2.2.2.2.2.2.2.2.2.2.2.2.2.2.2.2.1, u.2.2.2.2.2.2.2.2.2.2.2.2.2.2.2.2.2.2.2.2.2.2.2.2.2.2.2.2.2.2.2.2.2.2.1, u.2.2.2.2.2.2.2.2.2.2.2.2.2.2.2.2.2.2.2.2.2.2.2.2.2.2.2.2.2.2.2.2.2.2.2.1, u.2.2.2.2.2.2.2.2.2.2.2.2.2.2.2.2.2.2.2.2.2.2.2.2.2.2.2.2.2.2.2.2.2.2.2.2.1, u.2.2.2.2.2.2.2.2.2.2.2.2.2.2.2.2.2.2.2.2.2.2.2.2.2.2.2.2.2.2.2.2.2.2.2.2.2.1, u.2.2.2.2.2.2.2.2.2.2.2.2.2.2.2.2.2.2.2.2.2.2.2.2.2.2.2.2.2.2.2.2.2.2.2.2.2.2.1, u.2.2.2.2.2.2.2.2.2.2.2.2.2.2.2.2.2.2.2.2.2.2.2.2.2.2.2.2.2.2.2.2.2.2.2.2.2.2.2.1, u.2.2.2.2.2.2.2.2.2.2.2.2.2.2.2.2.2.2.2.2.2.2.2.2.2.2.2.2.2.2.2.2.2.2.2.2.2.2.2.2.1, u.2.2.2.2.2.2.2.2.2.2.2.2.2.2.2.2.2.2.2.2.2.2.2.2.2.2.2.2.2.2.2.2.2.2.2.2.2.2.2.2.2)
abbrev gs_fst (u : St1) (x : Int32) (y : Nat → Int32) : St1 := (x, u.2.1, u.2.2.1, u.2.2.2.1, u.2.2.2.2.1, u.2.2.2.2.2.1, u.2.2.2.2.2.2.1, u.2.2.2.2.2.2.2.1, u.2.2.2.2.2.2.2.2.1, u.2.2.2.2.2.2.2.2.2.1, u.2.2.2.2.2.2.2.2.2.2.1, u.2.2.2.2.2.2.2.2.2.2.2.1, u.2.2.2.2.2.2.2.2.2.2.2.2.1, u.2.2.2.2.2.2.2.2.2.2.2.2.2.1, u.2.2.2.2.2.2.2.2.2.2.2.2.2.2.1, u.2.2.2.2.2.2.2.2.2.2.2.2.2.2.2.1, u.2.2.2.2.2.2.2.2.2.2.2.2.2.2.2.2.1, u.2.2.2.2.2.2.2.2.2.2.2.2.2.2.2.2.2.1, u.2.2.2.2.2.2.2.2.2.2.2.2.2.2.2.2.2.2.1, y, u.2.2.2.2.2.2.2.2.2.2.2.2.2.2.2.2.2.2.2.2.1, u.2.2.2.2.2.2.2.2.2.2.2.2.2.2.2.2.2.2.2.2.2.1, u.2.2.2.2.2.2.2.2.2.2.2.2.2.2.2.2.2.2.2.2.2.2.1, u.2.2.2.2.2.2.2.2.2.2.2.2.2.2.2.2.2.2.2.2.2.2.2.1, u.2.2.2.2.2.2.2.2.2.2.2.2.2.2.2.2.2.2.2.2.2.2.2.2.1, u.2.2.2.2.2.2.2.2.2.2.2.2.2.2.2.2.2.2.2.2.2.2.2.2.2.1, u.2.2.2.2.2.2.2.2.2.2.2.2.2.2.2.2.2.2.2.2.2.2.2.2.2.2.1, u.2.2.2.2.2.2.2.2.2.2.2.2.2.2.2.2.2.2.2.2.2.2.2.2.2.2.2.1, u.2.2.2.2.2.2.2.2.2.2.2.2.2.2.2.2.2.2.2.2.2.2.2.2.2.2.2.2.1, u.2.2.2.2.2.2.2.2.2.2.2.2.2.2.2.2.2.2.2.2.2.2.2.2.2.2.2.2.2.1, u.2.2.2.2.2.2.2.2.2.2.2.2.2.2.2.2.2.2.2.2.2.2.2.2.2.2.2.2.2.2.1, u.2.2.2.2.2.2.2.2.2.2.2.2.2.2.2.2.2.2.2.2.2.2.2.2.2.2.2.2.2.2.2.1, u.2.2.2.2.2.2.2.2.2.2.2.2.2.2.2.2.2.2.2.2.2.2.2.2.2.2.2.2.2.2.2.2.1, u.2.2.2.2.2.2.2.2.2.2.2.2.2.2.2.2.2.2.2.2.2.2.2.2.2.2.2.2.2.2.2.2.2.1, u.2.2.2.2.2.2.2.2.2.2.2.2.2.2.2.2.2.2.2.2.2.2.2.2.2.2.2.2.2.2.2.2.2.2.1, u.2.2.2.2.2.2.2.2.2.2.2.2.2.2.2.2.2.2.2.2.2.2.2.2.2.2.2.2.2.2.2.2.2.2.2.1, u.2.2.2.2.2.2.2.2.2.2.2.2.2.2.2.2.2.2.2.2.2.2.2.2.2.2.2.2.2.2.2.2.2.2.2.2.1, u.2.2.2.2.2.2.2.2.2.2.2.2.2.2.2.2.2.2.2.2.2.2.2.2.2.2.2.2.2.2.2.2.2.2.2.2.2.1, u.2.2.2.2.2.2.2.2.2.2.2.2.2.2.2.2.2.2.2.2.2.2.2.2.2.2.2.2.2.2.2.2.2.2.2.2.2.2.1, u.2.2.2.2.2.2.2.2.2.2.2.2.2.2.2.2.2.2.2.2.2.2.2.2.2.2.2.2.2.2.2.2.2.2.2.2.2.2.2.1, u.2.2.2.2.2.2.2.2.2.2.2.2.2.2.2.2.2.2.2.2.2.2.2.2.2.2.2.2.2.2.2.2.2.2.2.2.2.2.2.2.1, u.2.2.2.2.2.2.2.2.2.2.2.2.2.2.2.2.2.2.2.2.2.2.2.2.2.2.2.2.2.2.2.2.2.2.2.2.2.2.2.2.2)
abbrev gs_fgt (u : St1) (x : Int32) (y : Int32) : St1 := (u.1, x, y, u.2.2.2.1, u.2.2.2.2.1, u.2.2.2.2.2.1, u.2.2.2.2.2.2.1, u.2.2.2.2.2.2.2.1, u.2.2.2.2.2.2.2.2.1, u.2.2.2.2.2.2.2.2.2.1, u.2.2.2.2.2.2.2.2.2.2.1, u.2.2.2.2.2.2.2.2.2.2.2.1, u.2.2.2.2.2.2.2.2.2.2.2.2.1, u.2.2.2.2.2.2.2.2.2.2.2.2.2.1, u.2.2.2.2.2.2.2.2.2.2.2.2.2.2.1, u.2.2.2.2.2.2.2.2.2.2.2.2.2.2.2.1, u.2.2.2.2.2.2.2.2.2.2.2.2.2.2.2.2.1, u.2.2.2.2.2.2.2.2.2.2.2.2.2.2.2.2.2.1, u.2.2.2.2.2.2.2.2.2.2.2.2.2.2.2.2.2.2.1, u.2.2.2.2.2.2.2.2.2.2.2.2.2.2.2.2.2.2.2.1, u.2.2.2.2.2.2.2.2.2.2.2.2.2.2.2.2.2.2.2.2.1, u.2.2.2.2.2.2.2.2.2.2.2.2.2.2.2.2.2.2.2.2.2.1, u.2.2.2.2.2.2.2.2.2.2.2.2.2.2.2.2.2.2.2.2.2.2.1, u.2.2.2.2.2.2.2.2.2.2.2.2.2.2.2.2.2.2.2.2.2.2.2.1, u.2.2.2.2.2.2.2.2.2.2.2.2.2.2.2.2.2.2.2.2.2.2.2.2.1, u.2.2.2.2.2.2.2.2.2.2.2.2.2.2.2.2.2.2.2.2.2.2.2.2.2.1, u.2.2.2.2.2.2.2.2.2.2.2.2.2.2.2.2.2.2.2.2.2.2.2.2.2.2.1, u.2.2.2.2.2.2.2.2.2.2.2.2.2.2.2.2.2.2.2.2.2.2.2.2.2.2.2.1, u.2.2.2.2.2.2.2.2.2.2.2.2.2.2.2.2.2.2.2.2.2.2.2.2.2.2.2.2.1, u.2.2.2.2.2.2.2.2.2.2.2.2.2.2.2.2.2.2.2.2.2.2.2.2.2.2.2.2.2.1, u.2.2.2.2.2.2.2.2.2.2.2.2.2.2.2.2.2.2.2.2.2.2.2.2.2.2.2.2.2.2.1, u.2.2.2.2.2.2.2.2.2.2.2.2.2.2.2.2.2.2.2.2.2.2.2.2.2.2.2.2.2.2.2.1, u.2.2.2.2.2.2.2.2.2.2.2.2.2.2.2.2.2.2.2.2.2.2.2.2.2.2.2.2.2.2.2.2.1, u.2.2.2.2.2.2.2.2.2.2.2.2.2.2.2.2.2.2.2.2.2.2.2.2.2.2.2.2.2.2.2.2.2.1, u.2.2.2.2.2.2.2.2.2.2.2.2.2.2.2.2.2.2.2.2.2.2.2.2.2.2.2.2.2.2.2.2.2.2.1, u.2.2.2.2.2.2.2.2.2.2.2.2.2.2.2.2.2.2.2.2.2.2.2.2.2.2.2.2.2.2.2.2.2.2.2.1, u.2.2.2.2.2.2.2.2.2.2.2.2.2.2.2.2.2.2.2.2.2.2.2.2.2.2.2.2.2.2.2.2.2.2.2.2.1, u.2.2.2.2.2.2.2.2.2.2.2.2.2.2.2.2.2.2.2.2.2.2.2.2.2.2.2.2.2.2.2.2.2.2.2.2.2.1, u.2.2.2.2.2.2.2.2.2.2.2.2.2.2.2.2.2.2.2.2.2.2.2.2.2.2.2.2.2.2.2.2.2.2.2.2.2.2.1, u.2.2.2.2.2.2.2.2.2.2.2.2.2.2.2.2.2.2.2.2.2.2.2.2.2.2.2.2.2.2.2.2.2.2.2.2.2.2.2.1, u.2.2.2.2.2.2.2.2.2.2.2.2.2.2.2.2.2.2.2.2.2.2.2.2.2.2.2.2.2.2.2.2.2.2.2.2.2.2.2.2.1, u.2.2.2.2.2.2.2.2.2.2.2.2.2.2.2.2.2.2.2.2.2.2.2.2.2.2.2.2.2.2.2.2.2.2.2.2.2.2.2.2.2)
abbrev gs_ru (u : St1) (k : Int32) (m : Int32) (x : Nat → Int32) (y : Nat → Int32) : St1 := (u.1, k, m, u.2.2.2.1, u.2.2.2.2.1, u.2.2.2.2.2.1, u.2.2.2.2.2.2.1, u.2.2.2.2.2.2.2.1, u.2.2.2.2.2.2.2.2.1, u.2.2.2.2.2.2.2.2.2.1, u.2.2.2.2.2.2.2.2.2.2.1, u.2.2.2.2.2.2.2.2.2.2.2.1, u.2.2.2.2.2.2.2.2.2.2.2.2.1, u.2.2.2.2.2.2.2.2.2.2.2.2.2.1, u.2.2.2.2.2.2.2.2.2.2.2.2.2.2.1, u.2.2.2.2.2.2.2.2.2.2.2.2.2.2.2.1, u.2.2.2.2.2.2.2.2.2.2.2.2.2.2.2.2.1, x, y, u.2.2.2.2.2.2.2.2.2.2.2.2.2.2.2.2.2.2.2.1, u.2.2.2.2.2.2.2.2.2.2.2.2.2.2.2.2.2.2.2.2.1, u.2.2.2.2.2.2.2.2.2.2.2.2.2.2.2.2.2.2.2.2.2.1, u.2.2.2.2.2.2.2.2.2.2.2.2.2.2.2.2.2.2.2.2.2.2.1, u.2.2.2.2.2.2.2.2.2.2.2.2.2.2.2.2.2.2.2.2.2.2.2.1, u.2.2.2.2.2.2.2.2.2.2.2.2.2.2.2.2.2.2.2.2.2.2.2.2.1, u.2.2.2.2.2.2.2.2.2.2.2.2.2.2.2.2.2.2.2.2.2.2.2.2.2.1, u.2.2.2.2.2.2.2.2.2.2.2.2.2.2.2.2.2.2.2.2.2.2.2.2.2.2.1, u.2.2.2.2.2.2.2.2.2.2.2.2.2.2.2.2.2.2.2.2.2.2.2.2.2.2.2.1, u.2.2.2.2.2.2.2.2.2.2.2.2.2.2.2.2.2.2.2.2.2.2.2.2.2.2.2.2.1, u.2.2.2.2.2.2.2.2.2.2.2.2.2.2.2.2.2.2.2.2.2.2.2.2.2.2.2.2.2.1, u.2.2.2.2.2.2.2.2.2.2.2.2.2.2.2.2.2.2.2.2.2.2.2.2.2.2.2.2.2.2.1, u.2.2.2.2.2.2.2.2.2.2.2.2.2.2.2.2.2.2.2.2.2.2.2.2.2.2.2.2.2.2.2.1, u.2.2.2.2.2.2.2.2.2.2.2.2.2.2.2.2.2.2.2.2.2.2.2.2.2.2.2.2.2.2.2.2.1, u.2.2.2.2.2.2.2.2.2.2.2.2.2.2.2.2.2.2.2.2.2.2.2.2.2.2.2.2.2.2.2.2.2.1, u.2.2.2.2.2.2.2.2.2.2.2.2.2.2.2.2.2.2.2.2.2.2.2.2.2.2.2.2.2.2.2.2.2.2.1, u.2.2.2.2.2.2.2.2.2.2.2.2.2.2.2.2.2.2.2.2.2.2.2.2.2.2.2.2.2.2.2.2.2.2.2.1, u.2.2.2.2.2.2.2.2.2.2.2.2.2.2.2.2.2.2.2.2.2.2.2.2.2.2.2.2.2.2.2.2.2.2.2.2.1, u.2.2.2.2.2.2.2.2.2.2.2.2.2.2.2.2.2.2.2.2.2.2.2.2.2.2.2.2.2.2.2.2.2.2.2.2.2.1, u.2.2.2.2.2.2.2.2.2.2.2.2.2.2.2.2.2.2.2.2.2.2.2.2.2.2.2.2.2.2.2.2.2.2.2.2.2.2.1, u.2.2.2.2.2.2.2.2.2.2.2.2.2.2.2.2.2.2.2.2.2.2.2.2.2.2.2.2.2.2.2.2.2.2.2.2.2.2.2.1, u.2.2.2.2.2.2.2.2.2.2.2.2.2.2.2.2.2.2.2.2.2.2.2.2.2.2.2.2.2.2.2.2.2.2.2.2.2.2.2.2.1, u.2.2.2.2.2.2.2.2.2.2.2.2.2.2.2.2.2.2.2.2.2.2.2.2.2.2.2.2.2.2.2.2.2.2.2.2.2.2.2.2.2)
abbrev gs_pat (u : St1) (x : Int32) (y : Int32) (z : Nat → Int32) : St1 := (u.1, u.2.1, x, y, u.2.2.2.2.1, u.2.2.2.2.2.1, u.2.2.2.2.2.2.1, u.2.2.2.2.2.2.2.1, u.2.2.2.2.2.2.2.2.1, u.2.2.2.2.2.2.2.2.2.1, u.2.2.2.2.2.2.2.2.2.2.1, u.2.2.2.2.2.2.2.2.2.2.2.1, u.2.2.2.2.2.2.2.2.2.2.2.2.1, u.2.2.2.2.2.2.2.2.2.2.2.2.2.1, u.2.2.2.2.2.2.2.2.2.2.2.2.2.2.1, u.2.2.2.2.2.2.2.2.2.2.2.2.2.2.2.1, u.2.2.2.2.2.2.2.2.2.2.2.2.2.2.2.2.1, u.2.2.2.2.2.2.2.2.2.2.2.2.2.2.2.2.2.1, u.2.2.2.2.2.2.2.2.2.2.2.2.2.2.2.2.2.2.1, u.2.2.2.2.2.2.2.2.2.2.2.2.2.2.2.2.2.2.2.1, u.2.2.2.2.2.2.2.2.2.2.2.2.2.2.2.2.2.2.2.2.1, u.2.2.2.2.2.2.2.2.2.2.2.2.2.2.2.2.2.2.2.2.2.1, u.2.2.2.2.2.2.2.2.2.2.2.2.2.2.2.2.2.2.2.2.2.2.1, u.2.2.2.2.2.2.2.2.2.2.2.2.2.2.2.2.2.2.2.2.2.2.2.1, u.2.2.2.2.2.2.2.2.2.2.2.2.2.2.2.2.2.2.2.2.2.2.2.2.1, u.2.2.2.2.2.2.2.2.2.2.2.2.2.2.2.2.2.2.2.2.2.2.2.2.2.1, u.2.2.2.2.2.2.2.2.2.2.2.2.2.2.2.2.2.2.2.2.2.2.2.2.2.2.1, u.2.2.2.2.2.2.2.2.2.2.2.2.2.2.2.2.2.2.2.2.2.2.2.2.2.2.2.1, u.2.2.2.2.2.2.2.2.2.2.2.2.2.2.2.2.2.2.2.2.2.2.2.2.2.2.2.2.1, u.2.2.2.2.2.2.2.2.2.2.2.2.2.2.2.2.2.2.2.2.2.2.2.2.2.2.2.2.2.1, u.2.2.2.2.2.2.2.2.2.2.2.2.2.2.2.2.2.2.2.2.2.2.2.2.2.2.2.2.2.2.1, u.2.2.2.2.2.2.2.2.2.2.2.2.2.2.2.2.2.2.2.2.2.2.2.2.2.2.2.2.2.2.2.1, u.2.2.2.2.2.2.2.2.2.2.2.2.2.2.2.2.2.2.2.2.2.2.2.2.2.2.2.2.2.2.2.2.1, u.2.2.2.2.2.2.2.2.2.2.2.2.2.2.2.2.2.2.2.2.2.2.2.2.2.2.2.2.2.2.2.2.2.1, u.2.2.2.2.2.2.2.2.2.2.2.2.2.2.2.2.2.2.2.2.2.2.2.2.2.2.2.2.2.2.2.2.2.2.1, z, u.2.2.2.2.2.2.2.2.2.2.2.2.2.2.2.2.2.2.2.2.2.2.2.2.2.2.2.2.2.2.2.2.2.2.2.2.1, u.2.2.2.2.2.2.2.2.2.2.2.2.2.2.2.2.2.2.2.2.2.2.2.2.2.2.2.2.2.2.2.2.2.2.2.2.2.1, u.2.2.2.2.2.2.2.2.2.2.2.2.2.2.2.2.2.2.2.2.2.2.2.2.2.2.2.2.2.2.2.2.2.2.2.2.2.2.1, u.2.2.2.2.2.2.2.2.2.2.2.2.2.2.2.2.2.2.2.2.2.2.2.2.2.2.2.2.2.2.2.2.2.2.2.2.2.2.2.1, u.2.2.2.2.2.2.2.2.2.2.2.2.2.2.2.2.2.2.2.2.2.2.2.2.2.2.2.2.2.2.2.2.2.2.2.2.2.2.2.2.1, u.2.2.2.2.2.2.2.2.2.2.2.2.2.2.2.2.2.2.2.2.2.2.2.2.2.2.2.2.2.2.2.2.2.2.2.2.2.2.2.2.2)
abbrev gs_78 (u : St1) (x : Nat → Int32) (y : Nat → Int32) : St1 := (u.1, u.2.1, u.2.2.1, u.2.2.2.1, u.2.2.2.2.1, u.2.2.2.2.2.1, u.2.2.2.2.2.2.1, u.2.2.2.2.2.2.2.1, u.2.2.2.2.2.2.2.2.1, u.2.2.2.2.2.2.2.2.2.1, u.2.2.2.2.2.2.2.2.2.2.1, u.2.2.2.2.2.2.2.2.2.2.2.1, u.2.2.2.2.2.2.2.2.2.2.2.2.1, u.2.2.2.2.2.2.2.2.2.2.2.2.2.1, u.2.2.2.2.2.2.2.2.2.2.2.2.2.2.1, u.2.2.2.2.2.2.2.2.2.2.2.2.2.2.2.1, u.2.2.2.2.2.2.2.2.2.2.2.2.2.2.2.2.1, u.2.2.2.2.2.2.2.2.2.2.2.2.2.2.2.2.2.1, u.2.2.2.2.2.2.2.2.2.2.2.2.2.2.2.2.2.2.1, u.2.2.2.2.2.2.2.2.2.2.2.2.2.2.2.2.2.2.2.1, u.2.2.2.2.2.2.2.2.2.2.2.2.2.2.2.2.2.2.2.2.1, u.2.2.2.2.2.2.2.2.2.2.2.2.2.2.2.2.2.2.2.2.2.1, u.2.2.2.2.2.2.2.2.2.2.2.2.2.2.2.2.2.2.2.2.2.2.1, x, y, u.2.2.2.2.2.2.2.2.2.2.2.2.2.2.2.2.2.2.2.2.2.2.2.2.2.1, u.2.2.2.2.2.2.2.2.2.2.2.2.2.2.2.2.2.2.2.2.2.2.2.2.2.2.1, u.2.2.2.2.2.2.2.2.2.2.2.2.2.2.2.2.2.2.2.2.2.2.2.2.2.2.2.1, u.2.2.2.2.2.2.2.2.2.2.2.2.2.2.2.2.2.2.2.2.2.2.2.2.2.2.2.2.1, u.2.2.2.2.2.2.2.2.2.2.2.2.2.2.2.2.2.2.2.2.2.2.2.2.2.2.2.2.2.1, u.2.2.2.2.2.2.2.2.2.2.2.2.2.2.2.2.2.2.2.2.2.2.2.2.2.2.2.2.2.2.1, u.2.2.2.2.2.2.2.2.2.2.2.2.2.2.2.2.2.2.2.2.2.2.2.2.2.2.2.2.2.2.2.1, u.2.2.2.2.2.2.2.2.2.2.2.2.2.2.2.2.2.2.2.2.2.2.2.2.2.2.2.2.2.2.2.2.1, u.2.2.2.2.2.2.2.2.2.2.2.2.2.2.2.2.2.2.2.2.2.2.2.2.2.2.2.2.2.2.2.2.2.1, u.2.2.2.2.2.2.2.2.2.2.2.2.2.2.2.2.2.2.2.2.2.2.2.2.2.2.2.2.2.2.2.2.2.2.1, u.2.2.2.2.2.2.2.2.2.2.2.2.2.2.2.2.2.2.2.2.2.2.2.2.2.2.2.2.2.2.2.2.2.2.2.1, u.2.2.2.2.2.2.2.2.2.2.2.2.2.2.2.2.2.2.2.2.2.2.2.2.2.2.2.2.2.2.2.2.2.2.2.2.1, u.2.2.2.2.2.2.2.2.2.2.2.2.2.2.2.2.2.2.2.2.2.2.2.2.2.2.2.2.2.2.2.2.2.2.2.2.2.1, u.2.2.2.2.2.2.2.2.2.2.2.2.2.2.2.2.2.2.2.2.2.2.2.2.2.2.2.2.2.2.2.2.2.2.2.2.2.2.1, u.2.2.2.2.2.2.2.2.2.2.2.2.2.2.2.2.2.2.2.2.2.2.2.2.2.2.2.2.2.2.2.2.2.2.2.2.2.2.2.1, u.2.2.2.2.2.2.2.2.2.2.2.2.2.2.2.2.2.2.2.2.2.2.2.2.2.2.2.2.2.2.2.2.2.2.2.2.2.2.2.2.1, u.2.2.2.2.2.2.2.2.2.2.2.2.2.2.2.2.2.2.2.2.2.2.2.2.2.2.2.2.2.2.2.2.2.2.2.2.2.2.2.2.2)
abbrev gs_56 (u : St1) (x : Nat → Int32) (y : Nat → Int32) : St1 := (u.1, u.2.1, u.2.2.1, u.2.2.2.1, u.2.2.2.2.1, u.2.2.2.2.2.1, u.2.2.2.2.2.2.1, u.2.2.2.2.2.2.2.1, u.2.2.2.2.2.2.2.2.1, u.2.2.2.2.2.2.2.2.2.1, u.2.2.2.2.2.2.2.2.2.2.1, u.2.2.2.2.2.2.2.2.2.2.2.1, u.2.2.2.2.2.2.2.2.2.2.2.2.1, u.2.2.2.2.2.2.2.2.2.2.2.2.2.1, u.2.2.2.2.2.2.2.2.2.2.2.2.2.2.1, u.2.2.2.2.2.2.2.2.2.2.2.2.2.2.2.1, u.2.2.2.2.2.2.2.2.2.2.2.2.2.2.2.2.1, u.2.2.2.2.2.2.2.2.2.2.2.2.2.2.2.2.2.1, u.2.2.2.2.2.2.2.2.2.2.2.2.2.2.2.2.2.2.1, u.2.2.2.2.2.2.2.2.2.2.2.2.2.2.2.2.2.2.2.1, u.2.2.2.2.2.2.2.2.2.2.2.2.2.2.2.2.2.2.2.2.1, x, y, u.2.2.2.2.2.2.2.2.2.2.2.2.2.2.2.2.2.2.2.2.2.2.2.1, u.2.2.2.2.2.2.2.2.2.2.2.2.2.2.2.2.2.2.2.2.2.2.2.2.1, u.2.2.2.2.2.2.2.2.2.2.2.2.2.2.2.2.2.2.2.2.2.2.2.2.2.1, u.2.2.2.2.2.2.2.2.2.2.2.2.2.2.2.2.2.2.2.2.2.2.2.2.2.2.1, u.2.2.2.2.2.2.2.2.2.2.2.2.2.2.2.2.2.2.2.2.2.2.2.2.2.2.2.1, u.2.2.2.2.2.2.2.2.2.2.2.2.2.2.2.2.2.2.2.2.2.2.2.2.2.2.2.2.1, u.2.2.2.2.2.2.2.2.2.2.2.2.2.2.2.2.2.2.2.2.2.2.2.2.2.2.2.2.2.1, u.2.2.2.2.2.2.2.2.2.2.2.2.2.2.2.2.2.2.2.2.2.2.2.2.2.2.2.2.2.2.1, u.2.2.2.2.2.2.2.2.2.2.2.2.2.2.2.2.2.2.2.2.2.2.2.2.2.2.2.2.2.2.2.1, u.2.2.2.2.2.2.2.2.2.2.2.2.2.2.2.2.2.2.2.2.2.2.2.2.2.2.2.2.2.2.2.2.1, u.2.2.2.2.2.2.2.2.2.2.2.2.2.2.2.2.2.2.2.2.2.2.2.2.2.2.2.2.2.2.2.2.2.1, u.2.2.2.2.2.2.2.2.2.2.2.2.2.2.2.2.2.2.2.2.2.2.2.2.2.2.2.2.2.2.2.2.2.2.1, u.2.2.2.2.2.2.2.2.2.2.2.2.2.2.2.2.2.2.2.2.2.2.2.2.2.2.2.2.2.2.2.2.2.2.2.1, u.2.2.2.2.2.2.2.2.2.2.2.2.2.2.2.2.2.2.2.2.2.2.2.2.2.2.2.2.2.2.2.2.2.2.2.2.1, u.2.2.2.2.2.2.2.2.2.2.2.2.2.2.2.2.2.2.2.2.2.2.2.2.2.2.2.2.2.2.2.2.2.2.2.2.2.1, u.2.2.2.2.2.2.2.2.2.2.2.2.2.2.2.2.2.2.2.2.2.2.2.2.2.2.2.2.2.2.2.2.2.2.2.2.2.2.1, u.2.2.2.2.2.2.2.2.2.2.2.2.2.2.2.2.2.2.2.2.2.2.2.2.2.2.2.2.2.2.2.2.2.2.2.2.2.2.2.1, u.2.2.2.2.2.2.2.2.2.2.2.2.2.2.2.2.2.2.2.2.2.2.2.2.2.2.2.2.2.2.2.2.2.2.2.2.2.2.2.2.1, u.2.2.2.2.2.2.2.2.2.2.2.2.2.2.2.2.2.2.2.2.2.2.2.2.2.2.2.2.2.2.2.2.2.2.2.2.2.2.2.2.2)
def gw_core (u : St1) : Int32 × Int32 × Int32 × (Nat → Int32) × (Nat → Int32) × (Nat → Int32) × (Nat → Int32) × (Nat → Int32) := (gw_fs u, gw_pn u, gw_ps u, gw_a1 u, gw_a2 u, gw_a3 u, gw_a21 u, gw_a22 u)
abbrev gw_JS : Type := Int32 → Int32 → Int32 → Int32 → Int32 → Int32 → Int32 → Int32 → Int32 → Int32 → Int32 → Int32 → Int32 → Int32 → Int32 → Int32 → Int32 → Int32 → (Nat → Int32) → (Nat → Int32) → (Nat → Int32) → (Nat → Int32) → (Nat → Int32) → (Nat → Int32) → (Nat → Int32) → (Nat → Int32) → (Nat → Int32) → (Nat → Int32) → (Nat → Int32) → (Nat → Int32) → (Nat → Int32) → (Nat → Int32) → (Nat → Int32) → (Nat → Int32) → (Nat → Int32) → (Nat → Int32) → (Nat → Int32) → (Nat → Int32) → (Nat → Int32) → (Nat → Int32) → (Nat → Int32) → (Nat → Int32) → (Nat → Int32) → Prop
abbrev lo_JS (J : gw_JS) (x : Int32) (u : St1) : Prop := match u with | (b1, b2, b3, b4, b5, b6, b7, b8, b9, b10, b11, b12, b13, b14, b15, b16, b17, c1, c2, c3, c4, c5, c6, c7, c8, c9, c10, c11, c12, c13, c14, c15, c16, c17, c18, c19, c20, c21, c22, c23, c24, c25) => J x b1 b2 b3 b4 b5 b6 b7 b8 b9 b10 b11 b12 b13 b14 b15 b16 b17 c1 c2 c3 c4 c5 c6 c7 c8 c9 c10 c11 c12 c13 c14 c15 c16 c17 c18 c19 c20 c21 c22 c23 c24 c25
def lo_begin (post : Int32 → St1 → Prop) (x2 : Int32) (n : Nat) (x3 : Int32) (x4 : Int32) (u : St1) : Prop := match u with | (b1, b2, b3, b4, b5, b6, b7, b8, b9, b10, b11, b12, b13, b14, b15, b16, b17, c1, c2, c3, c4, c5, c6, c7, c8, c9, c10, c11, c12, c13, c14, c15, c16, c17, c18, c19, c20, c21, c22, c23, c24, c25) => wX_begin_19 post x2 b1 b2 b3 b4 b5 b6 b7 b8 b9 b10 b11 b12 b13 b14 b15 b16 b17 n x3 x4 c1 c2 c3 c4 c5 c6 c7 c8 c9 c10 c11 c12 c13 c14 c15 c16 c17 c18 c19 c20 c21 c22 c23 c24 c25
def lo_addN (post : St1 → Prop) (x1 : Int32) (x2 : Int32) (n : Nat) (x3 : Int32) (u : St1) : Prop := match u with | (b1, b2, b3, b4, b5, b6, b7, b8, b9, b10, b11, b12, b13, b14, b15, b16, b17, c1, c2, c3, c4, c5, c6, c7, c8, c9, c10, c11, c12, c13, c14, c15, c16, c17, c18, c19, c20, c21, c22, c23, c24, c25) => wX_addNumbers_2 post x1 x2 b1 b2 b3 b4 b5 b6 b7 b8 b9 b10 b11 b12 b13 b14 b15 b16 b17 n x3 c1 c2 c3 c4 c5 c6 c7 c8 c9 c10 c11 c12 c13 c14 c15 c16 c17 c18 c19 c20 c21 c22 c23 c24 c25
def lo_j226 (post : St1 → Prop) (x1 : Int32) (z0 : Int32) (u : St1) : Prop := match u with | (b1, b2, b3, b4, b5, b6, b7, b8, b9, b10, b11, b12, b13, b14, b15, b16, b17, c1, c2, c3, c4, c5, c6, c7, c8, c9, c10, c11, c12, c13, c14, c15, c16, c17, c18, c19, c20, c21, c22, c23, c24, c25) => wX_joinRuns_226 post x1 z0 b1 b2 b3 b4 b5 b6 b7 b8 b9 b10 b11 b12 b13 b14 b15 b16 b17 c1 c2 c3 c4 c5 c6 c7 c8 c9 c10 c11 c12 c13 c14 c15 c16 c17 c18 c19 c20 c21 c22 c23 c24 c25
def lo_j196 (post : St1 → Prop) (x1 : Int32) (z0 : Int32) (u : St1) : Prop := match u with | (b1, b2, b3, b4, b5, b6, b7, b8, b9, b10, b11, b12, b13, b14, b15, b16, b17, c1, c2, c3, c4, c5, c6, c7, c8, c9, c10, c11, c12, c13, c14, c15, c16, c17, c18, c19, c20, c21, c22, c23, c24, c25) => wX_joinRuns_196 post x1 z0 b1 b2 b3 b4 b5 b6 b7 b8 b9 b10 b11 b12 b13 b14 b15 b16 b17 c1 c2 c3 c4 c5 c6 c7 c8 c9 c10 c11 c12 c13 c14 c15 c16 c17 c18 c19 c20 c21 c22 c23 c24 c25
def lo_j166 (post : St1 → Prop) (x1 : Int32) (x3 : Int32) (z0 : Int32) (u : St1) : Prop := match u with | (b1, b2, b3, b4, b5, b6, b7, b8, b9, b10, b11, b12, b13, b14, b15, b16, b17, c1, c2, c3, c4, c5, c6, c7, c8, c9, c10, c11, c12, c13, c14, c15, c16, c17, c18, c19, c20, c21, c22, c23, c24, c25) => wX_joinRuns_166 post x1 x3 z0 b1 b2 b3 b4 b5 b6 b7 b8 b9 b10 b11 b12 b13 b14 b15 b16 b17 c1 c2 c3 c4 c5 c6 c7 c8 c9 c10 c11 c12 c13 c14 c15 c16 c17 c18 c19 c20 c21 c22 c23 c24 c25
def lo_j160 (post : St1 → Prop) (x1 : Int32) (x3 : Int32) (u : St1) : Prop := match u with | (b1, b2, b3, b4, b5, b6, b7, b8, b9, b10, b11, b12, b13, b14, b15, b16, b17, c1, c2, c3, c4, c5, c6, c7, c8, c9, c10, c11, c12, c13, c14, c15, c16, c17, c18, c19, c20, c21, c22, c23, c24, c25) => wX_joinRuns_160 post x1 x3 b1 b2 b3 b4 b5 b6 b7 b8 b9 b10 b11 b12 b13 b14 b15 b16 b17 c1 c2 c3 c4 c5 c6 c7 c8 c9 c10 c11 c12 c13 c14 c15 c16 c17 c18 c19 c20 c21 c22 c23 c24 c25
def lo_j134 (post : St1 → Prop) (x1 : Int32) (x2 : Int32) (x3 : Int32) (z0 : Int32) (u : St1) : Prop := match u with | (b1, b2, b3, b4, b5, b6, b7, b8, b9, b10, b11, b12, b13, b14, b15, b16, b17, c1, c2, c3, c4, c5, c6, c7, c8, c9, c10, c11, c12, c13, c14, c15, c16, c17, c18, c19, c20, c21, c22, c23, c24, c25) => wX_joinRuns_134 post x1 x2 x3 z0 b1 b2 b3 b4 b5 b6 b7 b8 b9 b10 b11 b12 b13 b14 b15 b16 b17 c1 c2 c3 c4 c5 c6 c7 c8 c9 c10 c11 c12 c13 c14 c15 c16 c17 c18 c19 c20 c21 c22 c23 c24 c25
def lo_j114 (post : St1 → Prop) (x1 : Int32) (x2 : Int32) (x3 : Int32) (u : St1) : Prop := match u with | (b1, b2, b3, b4, b5, b6, b7, b8, b9, b10, b11, b12, b13, b14, b15, b16, b17, c1, c2, c3, c4, c5, c6, c7, c8, c9, c10, c11, c12, c13, c14, c15, c16, c17, c18, c19, c20, c21, c22, c23, c24, c25) => wX_joinRuns_114 post x1 x2 x3 b1 b2 b3 b4 b5 b6 b7 b8 b9 b10 b11 b12 b13 b14 b15 b16 b17 c1 c2 c3 c4 c5 c6 c7 c8 c9 c10 c11 c12 c13 c14 c15 c16 c17 c18 c19 c20 c21 c22 c23 c24 c25
def lo_j53 (post : St1 → Prop) (x1 : Int32) (x2 : Int32) (z0 : Int32) (u : St1) : Prop := match u with | (b1, b2, b3, b4, b5, b6, b7, b8, b9, b10, b11, b12, b13, b14, b15, b16, b17, c1, c2, c3, c4, c5, c6, c7, c8, c9, c10, c11, c12, c13, c14, c15, c16, c17, c18, c19, c20, c21, c22, c23, c24, c25) => wX_joinRuns_53 post x1 x2 z0 b1 b2 b3 b4 b5 b6 b7 b8 b9 b10 b11 b12 b13 b14 b15 b16 b17 c1 c2 c3 c4 c5 c6 c7 c8 c9 c10 c11 c12 c13 c14 c15 c16 c17 c18 c19 c20 c21 c22 c23 c24 c25
def lo_j28 (post : St1 → Prop) (x1 : Int32) (z0 : Int32) (u : St1) : Prop := match u with | (b1, b2, b3, b4, b5, b6, b7, b8, b9, b10, b11, b12, b13, b14, b15, b16, b17, c1, c2, c3, c4, c5, c6, c7, c8, c9, c10, c11, c12, c13, c14, c15, c16, c17, c18, c19, c20, c21, c22, c23, c24, c25) => wX_joinRuns_28 post x1 z0 b1 b2 b3 b4 b5 b6 b7 b8 b9 b10 b11 b12 b13 b14 b15 b16 b17 c1 c2 c3 c4 c5 c6 c7 c8 c9 c10 c11 c12 c13 c14 c15 c16 c17 c18 c19 c20 c21 c22 c23 c24 c25
def lo_let68 (post : St1 → Prop) (x1 : Int32) (x2 : Int32) (z0 : Int32) (z1 : Int32) (u : St1) : Prop := match u with | (b1, b2, b3, b4, b5, b6, b7, b8, b9, b10, b11, b12, b13, b14, b15, b16, b17, c1, c2, c3, c4, c5, c6, c7, c8, c9, c10, c11, c12, c13, c14, c15, c16, c17, c18, c19, c20, c21, c22, c23, c24, c25) => wX_layLetter_68 post x1 x2 z0 z1 b1 b2 b3 b4 b5 b6 b7 b8 b9 b10 b11 b12 b13 b14 b15 b16 b17 c1 c2 c3 c4 c5 c6 c7 c8 c9 c10 c11 c12 c13 c14 c15 c16 c17 c18 c19 c20 c21 c22 c23 c24 c25
def lo_let110 (post : St1 → Prop) (x1 : Int32) (x2 : Int32) (z0 : Int32) (z1 : Int32) (u : St1) : Prop := match u with | (b1, b2, b3, b4, b5, b6, b7, b8, b9, b10, b11, b12, b13, b14, b15, b16, b17, c1, c2, c3, c4, c5, c6, c7, c8, c9, c10, c11, c12, c13, c14, c15, c16, c17, c18, c19, c20, c21, c22, c23, c24, c25) => wX_layLetter_110 post x1 x2 z0 z1 b1 b2 b3 b4 b5 b6 b7 b8 b9 b10 b11 b12 b13 b14 b15 b16 b17 c1 c2 c3 c4 c5 c6 c7 c8 c9 c10 c11 c12 c13 c14 c15 c16 c17 c18 c19 c20 c21 c22 c23 c24 c25
def lo_form46 (post : St1 → Prop) (x1 : Int32) (x2 : Int32) (x3 : Int32) (n : Nat) (x4 : Int32) (u : St1) : Prop := match u with | (b1, b2, b3, b4, b5, b6, b7, b8, b9, b10, b11, b12, b13, b14, b15, b16, b17, c1, c2, c3, c4, c5, c6, c7, c8, c9, c10, c11, c12, c13, c14, c15, c16, c17, c18, c19, c20, c21, c22, c23, c24, c25) => wX_layForm_46 post x1 x2 x3 n x4 b1 b2 b3 b4 b5 b6 b7 b8 b9 b10 b11 b12 b13 b14 b15 b16 b17 c1 c2 c3 c4 c5 c6 c7 c8 c9 c10 c11 c12 c13 c14 c15 c16 c17 c18 c19 c20 c21 c22 c23 c24 c25
def lo_form17 (post : St1 → Prop) (x1 : Int32) (x2 : Int32) (x3 : Int32) (n : Nat) (x4 : Int32) (u : St1) : Prop := match u with | (b1, b2, b3, b4, b5, b6, b7, b8, b9, b10, b11, b12, b13, b14, b15, b16, b17, c1, c2, c3, c4, c5, c6, c7, c8, c9, c10, c11, c12, c13, c14, c15, c16, c17, c18, c19, c20, c21, c22, c23, c24, c25) => wX_layForm_17 post x1 x2 x3 b1 b2 b3 b4 b5 b6 b7 b8 b9 b10 b11 b12 b13 b14 b15 b16 b17 n x4 c1 c2 c3 c4 c5 c6 c7 c8 c9 c10 c11 c12 c13 c14 c15 c16 c17 c18 c19 c20 c21 c22 c23 c24 c25
def lo_letter15 (post : St1 → Prop) (x1 : Int32) (x2 : Int32) (n : Nat) (x3 : Int32) (u : St1) : Prop := match u with | (b1, b2, b3, b4, b5, b6, b7, b8, b9, b10, b11, b12, b13, b14, b15, b16, b17, c1, c2, c3, c4, c5, c6, c7, c8, c9, c10, c11, c12, c13, c14, c15, c16, c17, c18, c19, c20, c21, c22, c23, c24, c25) => wX_layLetter_15 post x1 x2 b1 b2 b3 b4 b5 b6 b7 b8 b9 b10 b11 b12 b13 b14 b15 b16 b17 n x3 c1 c2 c3 c4 c5 c6 c7 c8 c9 c10 c11 c12 c13 c14 c15 c16 c17 c18 c19 c20 c21 c22 c23 c24 c25
def lo_learn23 (post : St1 → Prop) (J : gw_JS) (x1 : Int32) (n : Nat) (x2 : Int32) (u : St1) : Prop := match u with | (b1, b2, b3, b4, b5, b6, b7, b8, b9, b10, b11, b12, b13, b14, b15, b16, b17, c1, c2, c3, c4, c5, c6, c7, c8, c9, c10, c11, c12, c13, c14, c15, c16, c17, c18, c19, c20, c21, c22, c23, c24, c25) => wX_learn_23 post J x1 n x2 b1 b2 b3 b4 b5 b6 b7 b8 b9 b10 b11 b12 b13 b14 b15 b16 b17 c1 c2 c3 c4 c5 c6 c7 c8 c9 c10 c11 c12 c13 c14 c15 c16 c17 c18 c19 c20 c21 c22 c23 c24 c25
def lo_learn15 (post : St1 → Prop) (n : Nat) (x1 : Int32) (u : St1) : Prop := match u with | (b1, b2, b3, b4, b5, b6, b7, b8, b9, b10, b11, b12, b13, b14, b15, b16, b17, c1, c2, c3, c4, c5, c6, c7, c8, c9, c10, c11, c12, c13, c14, c15, c16, c17, c18, c19, c20, c21, c22, c23, c24, c25) => wX_learn_15 post n x1 b1 b2 b3 b4 b5 b6 b7 b8 b9 b10 b11 b12 b13 b14 b15 b16 b17 c1 c2 c3 c4 c5 c6 c7 c8 c9 c10 c11 c12 c13 c14 c15 c16 c17 c18 c19 c20 c21 c22 c23 c24 c25
def lo_len4 (post : Int32 → Prop) (x1 : Int32) (n : Nat) (x2 : Int32) (x3 : Int32) (u : St1) : Prop := match u with | (b1, b2, b3, b4, b5, b6, b7, b8, b9, b10, b11, b12, b13, b14, b15, b16, b17, c1, c2, c3, c4, c5, c6, c7, c8, c9, c10, c11, c12, c13, c14, c15, c16, c17, c18, c19, c20, c21, c22, c23, c24, c25) => wX_lengthOf_4 post x1 b1 b2 b3 b4 b5 b6 b7 b8 b9 b10 b11 b12 b13 b14 b15 b16 b17 c1 c2 c3 c4 c5 c6 c7 c8 c9 c10 c11 c12 c13 c14 c15 c16 c17 c18 c19 c20 c21 c22 c23 c24 c25 n x2 x3
def lo_ref18 (post : Int32 → St1 → Prop) (x1 : Int32) (n : Nat) (x2 : Int32) (u : St1) : Prop := match u with | (b1, b2, b3, b4, b5, b6, b7, b8, b9, b10, b11, b12, b13, b14, b15, b16, b17, c1, c2, c3, c4, c5, c6, c7, c8, c9, c10, c11, c12, c13, c14, c15, c16, c17, c18, c19, c20, c21, c22, c23, c24, c25) => wX_refusal_18 post x1 b1 b2 b3 b4 b5 b6 b7 b8 b9 b10 b11 b12 b13 b14 b15 b16 b17 c1 c2 c3 c4 c5 c6 c7 c8 c9 c10 c11 c12 c13 c14 c15 c16 c17 c18 c19 c20 c21 c22 c23 c24 c25 n x2
def lo_beg14 (post : St1 → Prop) (x1 : Int32) (x2 : Int32) (n : Nat) (x3 : Int32) (u : St1) : Prop := match u with | (b1, b2, b3, b4, b5, b6, b7, b8, b9, b10, b11, b12, b13, b14, b15, b16, b17, c1, c2, c3, c4, c5, c6, c7, c8, c9, c10, c11, c12, c13, c14, c15, c16, c17, c18, c19, c20, c21, c22, c23, c24, c25) => wX_beginReader_14 post x1 x2 n x3 b1 b2 b3 b4 b5 b6 b7 b8 b9 b10 b11 b12 b13 b14 b15 b16 b17 c1 c2 c3 c4 c5 c6 c7 c8 c9 c10 c11 c12 c13 c14 c15 c16 c17 c18 c19 c20 c21 c22 c23 c24 c25
def lo_open37 (post : St1 → Prop) (x1 : Int32) (x3 : Int32) (x4 : Int32) (n : Nat) (x5 : Int32) (u : St1) : Prop := match u with | (b1, b2, b3, b4, b5, b6, b7, b8, b9, b10, b11, b12, b13, b14, b15, b16, b17, c1, c2, c3, c4, c5, c6, c7, c8, c9, c10, c11, c12, c13, c14, c15, c16, c17, c18, c19, c20, c21, c22, c23, c24, c25) => wX_openForm_37 post x1 x3 x4 n x5 b1 b2 b3 b4 b5 b6 b7 b8 b9 b10 b11 b12 b13 b14 b15 b16 b17 c1 c2 c3 c4 c5 c6 c7 c8 c9 c10 c11 c12 c13 c14 c15 c16 c17 c18 c19 c20 c21 c22 c23 c24 c25
def lo_com79 (post : Int32 → St1 → Prop) (n : Nat) (x5 : Int32) (x6 : Int32) (x7 : Int32) (x8 : Int32) (u : St1) : Prop := match u with | (b1, b2, b3, b4, b5, b6, b7, b8, b9, b10, b11, b12, b13, b14, b15, b16, b17, c1, c2, c3, c4, c5, c6, c7, c8, c9, c10, c11, c12, c13, c14, c15, c16, c17, c18, c19, c20, c21, c22, c23, c24, c25) => wX_common_79 post n x5 x6 x7 x8 b1 b2 b3 b4 b5 b6 b7 b8 b9 b10 b11 b12 b13 b14 b15 b16 b17 c1 c2 c3 c4 c5 c6 c7 c8 c9 c10 c11 c12 c13 c14 c15 c16 c17 c18 c19 c20 c21 c22 c23 c24 c25
def lo_cb22 (post : Int32 → St1 → Prop) (x2 : Int32) (n : Nat) (x4 : Int32) (x5 : Int32) (x6 : Int32) (x7 : Int32) (u : St1) : Prop := match u with | (b1, b2, b3, b4, b5, b6, b7, b8, b9, b10, b11, b12, b13, b14, b15, b16, b17, c1, c2, c3, c4, c5, c6, c7, c8, c9, c10, c11, c12, c13, c14, c15, c16, c17, c18, c19, c20, c21, c22, c23, c24, c25) => wX_countBefore_22 post x2 n x4 x5 x6 x7 b1 b2 b3 b4 b5 b6 b7 b8 b9 b10 b11 b12 b13 b14 b15 b16 b17 c1 c2 c3 c4 c5 c6 c7 c8 c9 c10 c11 c12 c13 c14 c15 c16 c17 c18 c19 c20 c21 c22 c23 c24 c25
def lo_cnt15 (post : Int32 → St1 → Prop) (x1 : Int32) (x2 : Int32) (x3 : Int32) (n : Nat) (x4 : Int32) (x5 : Int32) (x6 : Int32) (u : St1) : Prop := match u with | (b1, b2, b3, b4, b5, b6, b7, b8, b9, b10, b11, b12, b13, b14, b15, b16, b17, c1, c2, c3, c4, c5, c6, c7, c8, c9, c10, c11, c12, c13, c14, c15, c16, c17, c18, c19, c20, c21, c22, c23, c24, c25) => wL_counted_15 post x1 x2 x3 n x4 x5 x6 b1 b2 b3 b4 b5 b6 b7 b8 b9 b10 b11 b12 b13 b14 b15 b16 b17 c1 c2 c3 c4 c5 c6 c7 c8 c9 c10 c11 c12 c13 c14 c15 c16 c17 c18 c19 c20 c21 c22 c23 c24 c25
def lo_skip12 (post : St1 → Prop) (x1 : Int32) (n : Nat) (x3 : Int32) (x4 : Int32) (x5 : Int32) (u : St1) : Prop := match u with | (b1, b2, b3, b4, b5, b6, b7, b8, b9, b10, b11, b12, b13, b14, b15, b16, b17, c1, c2, c3, c4, c5, c6, c7, c8, c9, c10, c11, c12, c13, c14, c15, c16, c17, c18, c19, c20, c21, c22, c23, c24, c25) => wX_skip_12 post x1 n x3 x4 x5 b1 b2 b3 b4 b5 b6 b7 b8 b9 b10 b11 b12 b13 b14 b15 b16 b17 c1 c2 c3 c4 c5 c6 c7 c8 c9 c10 c11 c12 c13 c14 c15 c16 c17 c18 c19 c20 c21 c22 c23 c24 c25
def lo_read8 (post : Int32 → St1 → Prop) (x1 : Int32) (n : Nat) (x2 : Int32) (x3 : Int32) (u : St1) : Prop := match u with | (b1, b2, b3, b4, b5, b6, b7, b8, b9, b10, b11, b12, b13, b14, b15, b16, b17, c1, c2, c3, c4, c5, c6, c7, c8, c9, c10, c11, c12, c13, c14, c15, c16, c17, c18, c19, c20, c21, c22, c23, c24, c25) => wX_read_8 post x1 n x2 x3 b1 b2 b3 b4 b5 b6 b7 b8 b9 b10 b11 b12 b13 b14 b15 b16 b17 c1 c2 c3 c4 c5 c6 c7 c8 c9 c10 c11 c12 c13 c14 c15 c16 c17 c18 c19 c20 c21 c22 c23 c24 c25
def lo_rs15 (post : Int32 → Prop) (J : Int32 → Prop) (x1 : Int32) (n : Nat) (x2 : Int32) (x3 : Int32) (u : St1) : Prop := match u with | (b1, b2, b3, b4, b5, b6, b7, b8, b9, b10, b11, b12, b13, b14, b15, b16, b17, c1, c2, c3, c4, c5, c6, c7, c8, c9, c10, c11, c12, c13, c14, c15, c16, c17, c18, c19, c20, c21, c22, c23, c24, c25) => wX_restart_15 post J x1 b1 b2 b3 b4 b5 b6 b7 b8 b9 b10 b11 b12 b13 b14 b15 b16 b17 c1 c2 c3 c4 c5 c6 c7 c8 c9 c10 c11 c12 c13 c14 c15 c16 c17 c18 c19 c20 c21 c22 c23 c24 c25 n x2 x3
def lo_rs7 (post : Int32 → Prop) (n : Nat) (x1 : Int32) (u : St1) : Prop := match u with | (b1, b2, b3, b4, b5, b6, b7, b8, b9, b10, b11, b12, b13, b14, b15, b16, b17, c1, c2, c3, c4, c5, c6, c7, c8, c9, c10, c11, c12, c13, c14, c15, c16, c17, c18, c19, c20, c21, c22, c23, c24, c25) => wX_restart_7 post b1 b2 b3 b4 b5 b6 b7 b8 b9 b10 b11 b12 b13 b14 b15 b16 b17 c1 c2 c3 c4 c5 c6 c7 c8 c9 c10 c11 c12 c13 c14 c15 c16 c17 c18 c19 c20 c21 c22 c23 c24 c25 n x1
abbrev gw_JA : Type := Int32 → (Nat → Int32) → (Nat → Int32) → (Nat → Int32) → (Nat → Int32) → (Nat → Int32) → (Nat → Int32) → (Nat → Int32) → (Nat → Int32) → (Nat → Int32) → (Nat → Int32) → (Nat → Int32) → (Nat → Int32) → (Nat → Int32) → (Nat → Int32) → (Nat → Int32) → (Nat → Int32) → (Nat → Int32) → (Nat → Int32) → (Nat → Int32) → (Nat → Int32) → (Nat → Int32) → (Nat → Int32) → (Nat → Int32) → (Nat → Int32) → (Nat → Int32) → Prop
abbrev lo_J (J : gw_JA) (x : Int32) (u : St1) : Prop := match u with | (_, _, _, _, _, _, _, _, _, _, _, _, _, _, _, _, _, c1, c2, c3, c4, c5, c6, c7, c8, c9, c10, c11, c12, c13, c14, c15, c16, c17, c18, c19, c20, c21, c22, c23, c24, c25) => J x c1 c2 c3 c4 c5 c6 c7 c8 c9 c10 c11 c12 c13 c14 c15 c16 c17 c18 c19 c20 c21 c22 c23 c24 c25
def lo_ls83 (post : St1 → Prop) (J : gw_JA) (x1 : Int32) (x2 : Int32) (x3 : Int32) (x4 : Int32) (n : Nat) (x5 : Int32) (x6 : Int32) (x7 : Int32) (u : St1) : Prop := match u with | (b1, b2, b3, b4, b5, b6, b7, b8, b9, b10, b11, b12, b13, b14, b15, b16, b17, c1, c2, c3, c4, c5, c6, c7, c8, c9, c10, c11, c12, c13, c14, c15, c16, c17, c18, c19, c20, c21, c22, c23, c24, c25) => wX_layStates_83 post J x1 x2 x3 x4 b1 b2 b3 b4 b5 b6 b7 b8 b9 b10 b11 b12 b13 b14 b15 b16 b17 c1 c2 c3 c4 c5 c6 c7 c8 c9 c10 c11 c12 c13 c14 c15 c16 c17 c18 c19 c20 c21 c22 c23 c24 c25 n x5 x6 x7
def lo_ls13 (post : St1 → Prop) (x1 : Int32) (x2 : Int32) (x3 : Int32) (n : Nat) (x4 : Int32) (u : St1) : Prop := match u with | (b1, b2, b3, b4, b5, b6, b7, b8, b9, b10, b11, b12, b13, b14, b15, b16, b17, c1, c2, c3, c4, c5, c6, c7, c8, c9, c10, c11, c12, c13, c14, c15, c16, c17, c18, c19, c20, c21, c22, c23, c24, c25) => wX_layStates_13 post x1 x2 x3 b1 b2 b3 b4 b5 b6 b7 b8 b9 b10 b11 b12 b13 b14 b15 b16 b17 n x4 c1 c2 c3 c4 c5 c6 c7 c8 c9 c10 c11 c12 c13 c14 c15 c16 c17 c18 c19 c20 c21 c22 c23 c24 c25
def lo_al30 (post : Int32 → Prop) (J : Int32 → Prop) (x1 : Int32) (x2 : Int32) (x3 : Int32) (n : Nat) (x4 : Int32) (x5 : Int32) (u : St1) : Prop := match u with | (b1, b2, b3, b4, b5, b6, b7, b8, b9, b10, b11, b12, b13, b14, b15, b16, b17, c1, c2, c3, c4, c5, c6, c7, c8, c9, c10, c11, c12, c13, c14, c15, c16, c17, c18, c19, c20, c21, c22, c23, c24, c25) => wX_afterLetter_30 post J x1 x2 x3 b1 b2 b3 b4 b5 b6 b7 b8 b9 b10 b11 b12 b13 b14 b15 b16 b17 c1 c2 c3 c4 c5 c6 c7 c8 c9 c10 c11 c12 c13 c14 c15 c16 c17 c18 c19 c20 c21 c22 c23 c24 c25 n x4 x5
def lo_al4 (post : Int32 → Prop) (x1 : Int32) (x2 : Int32) (n : Nat) (x3 : Int32) (u : St1) : Prop := match u with | (b1, b2, b3, b4, b5, b6, b7, b8, b9, b10, b11, b12, b13, b14, b15, b16, b17, c1, c2, c3, c4, c5, c6, c7, c8, c9, c10, c11, c12, c13, c14, c15, c16, c17, c18, c19, c20, c21, c22, c23, c24, c25) => wX_afterLetter_4 post x1 x2 b1 b2 b3 b4 b5 b6 b7 b8 b9 b10 b11 b12 b13 b14 b15 b16 b17 c1 c2 c3 c4 c5 c6 c7 c8 c9 c10 c11 c12 c13 c14 c15 c16 c17 c18 c19 c20 c21 c22 c23 c24 c25 n x3
def lo_pr119 (post : St1 → Prop) (n : Nat) (x3 : Int32) (u : St1) : Prop := match u with | (b1, b2, b3, b4, b5, b6, b7, b8, b9, b10, b11, b12, b13, b14, b15, b16, b17, c1, c2, c3, c4, c5, c6, c7, c8, c9, c10, c11, c12, c13, c14, c15, c16, c17, c18, c19, c20, c21, c22, c23, c24, c25) => wX_prepare_119 post n x3 b1 b2 b3 b4 b5 b6 b7 b8 b9 b10 b11 b12 b13 b14 b15 b16 b17 c1 c2 c3 c4 c5 c6 c7 c8 c9 c10 c11 c12 c13 c14 c15 c16 c17 c18 c19 c20 c21 c22 c23 c24 c25
def lo_pr79 (post : St1 → Prop) (J : gw_JA) (x3 : Int32) (n : Nat) (x4 : Int32) (u : St1) : Prop := match u with | (b1, b2, b3, b4, b5, b6, b7, b8, b9, b10, b11, b12, b13, b14, b15, b16, b17, c1, c2, c3, c4, c5, c6, c7, c8, c9, c10, c11, c12, c13, c14, c15, c16, c17, c18, c19, c20, c21, c22, c23, c24, c25) => wX_prepare_79 post J x3 b1 b2 b3 b4 b5 b6 b7 b8 b9 b10 b11 b12 b13 b14 b15 b16 b17 n x4 c1 c2 c3 c4 c5 c6 c7 c8 c9 c10 c11 c12 c13 c14 c15 c16 c17 c18 c19 c20 c21 c22 c23 c24 c25
def lo_pr68 (post : St1 → Prop) (n : Nat) (x3 : Int32) (u : St1) : Prop := match u with | (b1, b2, b3, b4, b5, b6, b7, b8, b9, b10, b11, b12, b13, b14, b15, b16, b17, c1, c2, c3, c4, c5, c6, c7, c8, c9, c10, c11, c12, c13, c14, c15, c16, c17, c18, c19, c20, c21, c22, c23, c24, c25) => wX_prepare_68 post b1 b2 b3 b4 b5 b6 b7 b8 b9 b10 b11 b12 b13 b14 b15 b16 b17 n x3 c1 c2 c3 c4 c5 c6 c7 c8 c9 c10 c11 c12 c13 c14 c15 c16 c17 c18 c19 c20 c21 c22 c23 c24 c25
def lo_pr21 (post : St1 → Prop) (n : Nat) (x2 : Int32) (u : St1) : Prop := match u with | (b1, b2, b3, b4, b5, b6, b7, b8, b9, b10, b11, b12, b13, b14, b15, b16, b17, c1, c2, c3, c4, c5, c6, c7, c8, c9, c10, c11, c12, c13, c14, c15, c16, c17, c18, c19, c20, c21, c22, c23, c24, c25) => wX_prepare_21 post b1 b2 b3 b5 b6 b7 b8 b9 b10 b11 b12 b13 b14 b15 b16 b17 n x2 b4 c1 c2 c3 c4 c5 c6 c7 c8 c9 c10 c11 c12 c13 c14 c15 c16 c17 c18 c19 c20 c21 c22 c23 c24 c25
def lo_find67 (post : Int32 → St1 → Prop) (n : Nat) (x5 : Int32) (x6 : Int32) (x7 : Int32) (x8 : Int32) (u : St1) : Prop := match u with | (b1, b2, b3, b4, b5, b6, b7, b8, b9, b10, b11, b12, b13, b14, b15, b16, b17, c1, c2, c3, c4, c5, c6, c7, c8, c9, c10, c11, c12, c13, c14, c15, c16, c17, c18, c19, c20, c21, c22, c23, c24, c25) => wX_find_67 post n x5 x6 x7 x8 b1 b2 b3 b4 b5 b6 b7 b8 b9 b10 b11 b12 b13 b14 b15 b16 b17 c1 c2 c3 c4 c5 c6 c7 c8 c9 c10 c11 c12 c13 c14 c15 c16 c17 c18 c19 c20 c21 c22 c23 c24 c25
def lo_occ36 (post : Int32 → St1 → Prop) (x1 : Int32) (n : Nat) (x4 : Int32) (x5 : Int32) (x6 : Int32) (u : St1) : Prop := match u with | (b1, b2, b3, b4, b5, b6, b7, b8, b9, b10, b11, b12, b13, b14, b15, b16, b17, c1, c2, c3, c4, c5, c6, c7, c8, c9, c10, c11, c12, c13, c14, c15, c16, c17, c18, c19, c20, c21, c22, c23, c24, c25) => wX_occurrences_36 post x1 b1 b2 b3 b4 b5 b6 b7 b8 b9 b10 b11 b12 b13 b14 b15 b16 b17 c1 c2 c3 c4 c5 c6 c7 c8 c9 c10 c11 c12 c13 c14 c15 c16 c17 c18 c19 c20 c21 c22 c23 c24 c25 n x4 x5 x6
def lo_fnd14 (post : Int32 → St1 → Prop) (x1 : Int32) (x2 : Int32) (n : Nat) (x3 : Int32) (x4 : Int32) (x5 : Int32) (u : St1) : Prop := match u with | (b1, b2, b3, b4, b5, b6, b7, b8, b9, b10, b11, b12, b13, b14, b15, b16, b17, c1, c2, c3, c4, c5, c6, c7, c8, c9, c10, c11, c12, c13, c14, c15, c16, c17, c18, c19, c20, c21, c22, c23, c24, c25) => wL_found_14 post x1 x2 n x3 x4 x5 b1 b2 b3 b4 b5 b6 b7 b8 b9 b10 b11 b12 b13 b14 b15 b16 b17 c1 c2 c3 c4 c5 c6 c7 c8 c9 c10 c11 c12 c13 c14 c15 c16 c17 c18 c19 c20 c21 c22 c23 c24 c25
def lo_rule31 (post : Int32 → St1 → Prop) (x1 : Int32) (x3 : Int32) (n : Nat) (x4 : Int32) (x5 : Int32) (u : St1) : Prop := match u with | (b1, b2, b3, b4, b5, b6, b7, b8, b9, b10, b11, b12, b13, b14, b15, b16, b17, c1, c2, c3, c4, c5, c6, c7, c8, c9, c10, c11, c12, c13, c14, c15, c16, c17, c18, c19, c20, c21, c22, c23, c24, c25) => wX_rule_31 post x1 x3 b1 b2 b3 b4 b5 b6 b7 b8 b9 b10 b11 b12 b13 b14 b15 b16 b17 n x4 x5 c1 c2 c3 c4 c5 c6 c7 c8 c9 c10 c11 c12 c13 c14 c15 c16 c17 c18 c19 c20 c21 c22 c23 c24 c25
def lo_law283 (post : Int32 → Prop) (L : Nat) (xs : Nat → Int32) (J : gw_JS) (x2 : Int32) (x5 : Int32) (x7 : Int32) (x8 : Int32) (x10 : Int32) (x11 : Int32) (kc ks : Nat) (n : Nat) (x12 : Int32) (u : St1) : Prop := match u with | (b1, b2, b3, b4, b5, b6, b7, b8, b9, b10, b11, b12, b13, b14, b15, b16, b17, c1, c2, c3, c4, c5, c6, c7, c8, c9, c10, c11, c12, c13, c14, c15, c16, c17, c18, c19, c20, c21, c22, c23, c24, c25) => wL_law_283 post L xs J x2 x5 x7 x8 x10 x11 kc ks n x12 b1 b2 b3 b4 b5 b6 b7 b8 b9 b10 b11 b12 b13 b14 b15 b16 b17 c1 c2 c3 c4 c5 c6 c7 c8 c9 c10 c11 c12 c13 c14 c15 c16 c17 c18 c19 c20 c21 c22 c23 c24 c25
def lo_law329 (post : Int32 → Prop) (L : Nat) (xs : Nat → Int32) (J : gw_JS) (J2 : gw_JS) (x2 : Int32) (x5 : Int32) (x7 : Int32) (x8 : Int32) (x10 : Int32) (x11 : Int32) (x12 : Int32) (z0 : Int32) (z1 : Int32) (kc ks : Nat) (u : St1) : Prop := match u with | (b1, b2, b3, b4, b5, b6, b7, b8, b9, b10, b11, b12, b13, b14, b15, b16, b17, c1, c2, c3, c4, c5, c6, c7, c8, c9, c10, c11, c12, c13, c14, c15, c16, c17, c18, c19, c20, c21, c22, c23, c24, c25) => wL_law_329 post L xs J J2 x2 x5 x7 x8 x10 x11 x12 z0 z1 kc ks b1 b2 b3 b4 b5 b6 b7 b8 b9 b10 b11 b12 b13 b14 b15 b16 b17 c1 c2 c3 c4 c5 c6 c7 c8 c9 c10 c11 c12 c13 c14 c15 c16 c17 c18 c19 c20 c21 c22 c23 c24 c25
def lo_law317 (post : Int32 → Prop) (L : Nat) (xs : Nat → Int32) (J : gw_JS) (J2 : gw_JS) (x2 : Int32) (x5 : Int32) (x7 : Int32) (x8 : Int32) (x10 : Int32) (x11 : Int32) (x12 : Int32) (z0 : Int32) (kc ks : Nat) (u : St1) : Prop := match u with | (b1, b2, b3, b4, b5, b6, b7, b8, b9, b10, b11, b12, b13, b14, b15, b16, b17, c1, c2, c3, c4, c5, c6, c7, c8, c9, c10, c11, c12, c13, c14, c15, c16, c17, c18, c19, c20, c21, c22, c23, c24, c25) => wL_law_317 post L xs J J2 x2 x5 x7 x8 x10 x11 x12 z0 kc ks b1 b2 b3 b4 b5 b6 b7 b8 b9 b10 b11 b12 b13 b14 b15 b16 b17 c1 c2 c3 c4 c5 c6 c7 c8 c9 c10 c11 c12 c13 c14 c15 c16 c17 c18 c19 c20 c21 c22 c23 c24 c25
def lo_law316 (post : Int32 → Prop) (L : Nat) (xs : Nat → Int32) (J : gw_JS) (J2 : gw_JS) (x2 : Int32) (x5 : Int32) (x7 : Int32) (x8 : Int32) (x10 : Int32) (x11 : Int32) (x12 : Int32) (kc ks : Nat) (u : St1) : Prop := match u with | (b1, b2, b3, b4, b5, b6, b7, b8, b9, b10, b11, b12, b13, b14, b15, b16, b17, c1, c2, c3, c4, c5, c6, c7, c8, c9, c10, c11, c12, c13, c14, c15, c16, c17, c18, c19, c20, c21, c22, c23, c24, c25) => wL_law_316 post L xs J J2 x2 x5 x7 x8 x10 x11 x12 kc ks b1 b2 b3 b4 b5 b6 b7 b8 b9 b10 b11 b12 b13 b14 b15 b16 b17 c1 c2 c3 c4 c5 c6 c7 c8 c9 c10 c11 c12 c13 c14 c15 c16 c17 c18 c19 c20 c21 c22 c23 c24 c25
def lo_law268 (post : Int32 → Prop) (L : Nat) (xs : Nat → Int32) (J : gw_JS) (x2 : Int32) (x5 : Int32) (x7 : Int32) (x8 : Int32) (z0 : Int32) (kc ks : Nat) (u : St1) : Prop := match u with | (b1, b2, b3, b4, b5, b6, b7, b8, b9, b10, b11, b12, b13, b14, b15, b16, b17, c1, c2, c3, c4, c5, c6, c7, c8, c9, c10, c11, c12, c13, c14, c15, c16, c17, c18, c19, c20, c21, c22, c23, c24, c25) => wL_law_268 post L xs J x2 x5 x7 x8 z0 kc ks b1 b2 b3 b4 b5 b6 b7 b8 b9 b10 b11 b12 b13 b14 b15 b16 b17 c1 c2 c3 c4 c5 c6 c7 c8 c9 c10 c11 c12 c13 c14 c15 c16 c17 c18 c19 c20 c21 c22 c23 c24 c25
def lo_law247 (post : Int32 → Prop) (L : Nat) (xs : Nat → Int32) (J : gw_JS) (x2 : Int32) (x5 : Int32) (x6 : Int32) (x7 : Int32) (x8 : Int32) (kc ks : Nat) (u : St1) : Prop := match u with | (b1, b2, b3, b4, b5, b6, b7, b8, b9, b10, b11, b12, b13, b14, b15, b16, b17, c1, c2, c3, c4, c5, c6, c7, c8, c9, c10, c11, c12, c13, c14, c15, c16, c17, c18, c19, c20, c21, c22, c23, c24, c25) => wL_law_247 post L xs J x2 x5 x6 x7 x8 kc ks b1 b2 b3 b4 b5 b6 b7 b8 b9 b10 b11 b12 b13 b14 b15 b16 b17 c1 c2 c3 c4 c5 c6 c7 c8 c9 c10 c11 c12 c13 c14 c15 c16 c17 c18 c19 c20 c21 c22 c23 c24 c25
def lo_law191 (post : Int32 → Prop) (L : Nat) (xs : Nat → Int32) (J : gw_JS) (x2 : Int32) (x5 : Int32) (x6 : Int32) (x7 : Int32) (x8 : Int32) (kc ks : Nat) (u : St1) : Prop := match u with | (b1, b2, b3, b4, b5, b6, b7, b8, b9, b10, b11, b12, b13, b14, b15, b16, b17, c1, c2, c3, c4, c5, c6, c7, c8, c9, c10, c11, c12, c13, c14, c15, c16, c17, c18, c19, c20, c21, c22, c23, c24, c25) => wL_law_191 post L xs J x2 x5 x6 x7 x8 kc ks b1 b2 b3 b4 b5 b6 b7 b8 b9 b10 b11 b12 b13 b14 b15 b16 b17 c1 c2 c3 c4 c5 c6 c7 c8 c9 c10 c11 c12 c13 c14 c15 c16 c17 c18 c19 c20 c21 c22 c23 c24 c25
abbrev gw_JT : Type := Int32 → Int32 → Int32 → Int32 → Int32 → Int32 → Int32 → Int32 → Int32 → Int32 → Int32 → Int32 → Int32 → Int32 → Int32 → Int32 → Int32 → Int32 → Int32 → (Nat → Int32) → (Nat → Int32) → (Nat → Int32) → (Nat → Int32) → (Nat → Int32) → (Nat → Int32) → (Nat → Int32) → (Nat → Int32) → (Nat → Int32) → (Nat → Int32) → (Nat → Int32) → (Nat → Int32) → (Nat → Int32) → (Nat → Int32) → (Nat → Int32) → (Nat → Int32) → (Nat → Int32) → (Nat → Int32) → (Nat → Int32) → (Nat → Int32) → (Nat → Int32) → (Nat → Int32) → (Nat → Int32) → (Nat → Int32) → (Nat → Int32) → Prop
abbrev lo_JT (J : gw_JT) (x y : Int32) (u : St1) : Prop := match u with | (b1, b2, b3, b4, b5, b6, b7, b8, b9, b10, b11, b12, b13, b14, b15, b16, b17, c1, c2, c3, c4, c5, c6, c7, c8, c9, c10, c11, c12, c13, c14, c15, c16, c17, c18, c19, c20, c21, c22, c23, c24, c25) => J x y b1 b2 b3 b4 b5 b6 b7 b8 b9 b10 b11 b12 b13 b14 b15 b16 b17 c1 c2 c3 c4 c5 c6 c7 c8 c9 c10 c11 c12 c13 c14 c15 c16 c17 c18 c19 c20 c21 c22 c23 c24 c25
def lo_law63 (post : Int32 → Prop) (L : Nat) (xs : Nat → Int32) (J : gw_JT) (x2 : Int32) (x3 : Int32) (x4 : Int32) (z0 : Int32) (kc ks : Nat) (u : St1) : Prop := match u with | (b1, b2, b3, b4, b5, b6, b7, b8, b9, b10, b11, b12, b13, b14, b15, b16, b17, c1, c2, c3, c4, c5, c6, c7, c8, c9, c10, c11, c12, c13, c14, c15, c16, c17, c18, c19, c20, c21, c22, c23, c24, c25) => wL_law_63 post L xs J x2 x3 x4 z0 kc ks b1 b2 b3 b4 b5 b6 b7 b8 b9 b10 b11 b12 b13 b14 b15 b16 b17 c1 c2 c3 c4 c5 c6 c7 c8 c9 c10 c11 c12 c13 c14 c15 c16 c17 c18 c19 c20 c21 c22 c23 c24 c25
def lo_cnt127 (post : Int32 → St1 → Prop) (x1 : Int32) (x3 : Int32) (x4 : Int32) (z0 : Int32) (u : St1) : Prop := match u with | (b1, b2, b3, b4, b5, b6, b7, b8, b9, b10, b11, b12, b13, b14, b15, b16, b17, c1, c2, c3, c4, c5, c6, c7, c8, c9, c10, c11, c12, c13, c14, c15, c16, c17, c18, c19, c20, c21, c22, c23, c24, c25) => wL_counted_127 post x1 x3 x4 z0 b1 b2 b3 b4 b5 b6 b7 b8 b9 b10 b11 b12 b13 b14 b15 b16 b17 c1 c2 c3 c4 c5 c6 c7 c8 c9 c10 c11 c12 c13 c14 c15 c16 c17 c18 c19 c20 c21 c22 c23 c24 c25
def lo_fnd48 (post : Int32 → St1 → Prop) (x1 : Int32) (x2 : Int32) (x3 : Int32) (x4 : Int32) (u : St1) : Prop := match u with | (b1, b2, b3, b4, b5, b6, b7, b8, b9, b10, b11, b12, b13, b14, b15, b16, b17, c1, c2, c3, c4, c5, c6, c7, c8, c9, c10, c11, c12, c13, c14, c15, c16, c17, c18, c19, c20, c21, c22, c23, c24, c25) => wL_found_48 post x1 x2 x3 x4 b1 b2 b3 b4 b5 b6 b7 b8 b9 b10 b11 b12 b13 b14 b15 b16 b17 c1 c2 c3 c4 c5 c6 c7 c8 c9 c10 c11 c12 c13 c14 c15 c16 c17 c18 c19 c20 c21 c22 c23 c24 c25
def lo_law140 (post : Int32 → Prop) (L : Nat) (xs : Nat → Int32) (x2 : Int32) (kc ks : Nat) (n : Nat) (x5 : Int32) (u : St1) : Prop := match u with | (b1, b2, b3, b4, b5, b6, b7, b8, b9, b10, b11, b12, b13, b14, b15, b16, b17, c1, c2, c3, c4, c5, c6, c7, c8, c9, c10, c11, c12, c13, c14, c15, c16, c17, c18, c19, c20, c21, c22, c23, c24, c25) => wL_law_140 post L xs x2 kc ks n x5 b1 b2 b3 b4 b5 b6 b7 b8 b9 b10 b11 b12 b13 b14 b15 b16 b17 c1 c2 c3 c4 c5 c6 c7 c8 c9 c10 c11 c12 c13 c14 c15 c16 c17 c18 c19 c20 c21 c22 c23 c24 c25
def lo_law12 (post : Int32 → Prop) (L : Nat) (xs : Nat → Int32) (kc ks : Nat) (n : Nat) (x2 : Int32) (x3 : Int32) (u : St1) : Prop := match u with | (b1, b2, b3, b4, b5, b6, b7, b8, b9, b10, b11, b12, b13, b14, b15, b16, b17, c1, c2, c3, c4, c5, c6, c7, c8, c9, c10, c11, c12, c13, c14, c15, c16, c17, c18, c19, c20, c21, c22, c23, c24, c25) => wL_law_12 post L xs kc ks n x2 x3 b1 b2 b3 b4 b5 b6 b7 b8 b9 b10 b11 b12 b13 b14 b15 b16 b17 c1 c2 c3 c4 c5 c6 c7 c8 c9 c10 c11 c12 c13 c14 c15 c16 c17 c18 c19 c20 c21 c22 c23 c24 c25
abbrev lo_pr68J (post : St1 → Prop) (n : Nat) (u : St1) : gw_JA := match u with | (b1, b2, b3, b4, b5, b6, b7, b8, b9, b10, b11, b12, b13, b14, b15, b16, b17, _, _, _, _, _, _, _, _, _, _, _, _, _, _, _, _, _, _, _, _, _, _, _, _, _) => wX_prepare_68 post b1 b2 b3 b4 b5 b6 b7 b8 b9 b10 b11 b12 b13 b14 b15 b16 b17 n
abbrev lo_ls13J (post : St1 → Prop) (x1 : Int32) (x2 : Int32) (x3 : Int32) (n : Nat) (u : St1) : gw_JA := match u with | (b1, b2, b3, b4, b5, b6, b7, b8, b9, b10, b11, b12, b13, b14, b15, b16, b17, _, _, _, _, _, _, _, _, _, _, _, _, _, _, _, _, _, _, _, _, _, _, _, _, _) => wX_layStates_13 post x1 x2 x3 b1 b2 b3 b4 b5 b6 b7 b8 b9 b10 b11 b12 b13 b14 b15 b16 b17 n
def lo_ls61 (post : St1 → Prop) (J : gw_JA) (x1 : Int32) (x2 : Int32) (x3 : Int32) (x4 : Int32) (x5 : Int32) (z0 : Int32) (u : St1) : Prop := match u with | (b1, b2, b3, b4, b5, b6, b7, b8, b9, b10, b11, b12, b13, b14, b15, b16, b17, c1, c2, c3, c4, c5, c6, c7, c8, c9, c10, c11, c12, c13, c14, c15, c16, c17, c18, c19, c20, c21, c22, c23, c24, c25) => wX_layStates_61 post J x1 x2 x3 x4 x5 z0 b1 b2 b3 b4 b5 b6 b7 b8 b9 b10 b11 b12 b13 b14 b15 b16 b17 c1 c2 c3 c4 c5 c6 c7 c8 c9 c10 c11 c12 c13 c14 c15 c16 c17 c18 c19 c20 c21 c22 c23 c24 c25
def lo_ls154 (post : St1 → Prop) (J : gw_JA) (x1 : Int32) (x2 : Int32) (x3 : Int32) (x4 : Int32) (x5 : Int32) (x6 : Int32) (u : St1) : Prop := match u with | (b1, b2, b3, b4, b5, b6, b7, b8, b9, b10, b11, b12, b13, b14, b15, b16, b17, c1, c2, c3, c4, c5, c6, c7, c8, c9, c10, c11, c12, c13, c14, c15, c16, c17, c18, c19, c20, c21, c22, c23, c24, c25) => wX_layStates_154 post J x1 x2 x3 x4 x5 x6 b1 b2 b3 b4 b5 b6 b7 b8 b9 b10 b11 b12 b13 b14 b15 b16 b17 c1 c2 c3 c4 c5 c6 c7 c8 c9 c10 c11 c12 c13 c14 c15 c16 c17 c18 c19 c20 c21 c22 c23 c24 c25
abbrev lo_al4J (post : Int32 → Prop) (x1 : Int32) (x2 : Int32) (n : Nat) (u : St1) : Int32 → Prop := match u with | (b1, b2, b3, b4, b5, b6, b7, b8, b9, b10, b11, b12, b13, b14, b15, b16, b17, c1, c2, c3, c4, c5, c6, c7, c8, c9, c10, c11, c12, c13, c14, c15, c16, c17, c18, c19, c20, c21, c22, c23, c24, c25) => wX_afterLetter_4 post x1 x2 b1 b2 b3 b4 b5 b6 b7 b8 b9 b10 b11 b12 b13 b14 b15 b16 b17 c1 c2 c3 c4 c5 c6 c7 c8 c9 c10 c11 c12 c13 c14 c15 c16 c17 c18 c19 c20 c21 c22 c23 c24 c25 n
abbrev lo_rs7J (post : Int32 → Prop) (n : Nat) (u : St1) : Int32 → Prop := match u with | (b1, b2, b3, b4, b5, b6, b7, b8, b9, b10, b11, b12, b13, b14, b15, b16, b17, c1, c2, c3, c4, c5, c6, c7, c8, c9, c10, c11, c12, c13, c14, c15, c16, c17, c18, c19, c20, c21, c22, c23, c24, c25) => wX_restart_7 post b1 b2 b3 b4 b5 b6 b7 b8 b9 b10 b11 b12 b13 b14 b15 b16 b17 c1 c2 c3 c4 c5 c6 c7 c8 c9 c10 c11 c12 c13 c14 c15 c16 c17 c18 c19 c20 c21 c22 c23 c24 c25 n
end
section
/-! numbers -/
theorem gn_lin (a c l : Nat) : nI a * nI c + nI l = nI (a * c + l) := by rw [pk_mul, nI_add]
theorem gn_dec (k : Nat) : nI k + (-1) = nI k - 1 := (Int32.sub_eq_add_neg (nI k) 1).symm
theorem gn_m1lt : nI 0 - 1 < 0 := by decide
theorem gn_and {A B C : Prop} (h : A ∧ B → C) (a : A) (b : B) : C := h ⟨a, b⟩
theorem gu_s {f : Nat → Int32} {k : Nat} {x : Int32} : upd f k x k = x := pk_us
theorem gu_n {f : Nat → Int32} {k j : Nat} {x : Int32} (h : j ≠ k) : upd f k x j = f j := pk_un h
/-! how the state holds the picture -/
def gw_rul (R : Nat → List Nat) (a1 a2 : Nat → Int32) : Prop := ∀ c, c < 6 → a1 c = nI (R c).length ∧ ∀ i, i < (R c).length → a2 (4 * c + i) = nI ((R c).getD i 0)
def gw_fst (F : List Nat) (fs : Int32) (a3 : Nat → Int32) : Prop := fs = nI F.length ∧ ∀ i, i < F.length → a3 i = nI (F.getD i 0)
def gw_siz (R : Nat → List Nat) (a5 : Nat → Int32) : Prop := ∀ f, f < 78 → a5 f = nI (gx_fx R f).length
def gw_num (R : Nat → List Nat) (a6 : Nat → Int32) : Prop := ∀ f d, f < 78 → d < 6 → a6 (6 * f + d) = nI ((gx_fx R f).count d)
def gw_tab (R : Nat → List Nat) (P : List Nat) (ps : Int32) (a21 a22 : Nat → Int32) : Prop := ps = nI P.length ∧ ∀ f s, f < 78 → s < P.length → a21 (4 * f + s) = nI (gk_S P s (gx_fx R f)) ∧ a22 (4 * f + s) = nI (gk_H P s (gx_fx R f))
/-- the number of a word, its first letter lowest -/
def gw_code : List Nat → Nat
  | [] => 0
  | d :: ds => d + 1 + 7 * gw_code ds
def gw_okP (P : List Nat) : Prop := 1 ≤ P.length ∧ P.length ≤ 4 ∧ ∀ d, d ∈ P → d < 6
def gw_pat (R : Nat → List Nat) (pn ps : Int32) (a21 a22 : Nat → Int32) : Prop := pn = 0 ∨ ∃ P, gw_okP P ∧ pn = nI (gw_code P) ∧ gw_tab R P ps a21 a22
def gw_base (R : Nat → List Nat) (F : List Nat) (u : St1) : Prop := gx_okR R ∧ gx_okF F ∧ gw_rul R (gw_a1 u) (gw_a2 u) ∧ gw_fst F (gw_fs u) (gw_a3 u) ∧ gw_pat R (gw_pn u) (gw_ps u) (gw_a21 u) (gw_a22 u)
def gw_I (R : Nat → List Nat) (F : List Nat) (u : St1) : Prop := gw_base R F u ∧ (gw_kn u = 0 ∨ (gw_siz R (gw_a5 u) ∧ gw_num R (gw_a6 u)))
def gw_J (R : Nat → List Nat) (F : List Nat) (u : St1) : Prop := gw_base R F u ∧ gw_siz R (gw_a5 u) ∧ gw_num R (gw_a6 u)
theorem gw_JI {R : Nat → List Nat} {F : List Nat} {u : St1} (h : gw_J R F u) : gw_I R F u := ⟨h.1, Or.inr h.2⟩
theorem gw_base_core {R : Nat → List Nat} {F : List Nat} {u v : St1} (e : gw_core v = gw_core u) (h : gw_base R F u) : gw_base R F v := by
  unfold gw_core at e
  simp only [Prod.mk.injEq] at e
  obtain ⟨e1, e2, e3, e4, e5, e6, e7, e8⟩ := e
  unfold gw_base at h ⊢
  rw [e1, e2, e3, e4, e5, e6, e7, e8]
  exact h
theorem gw_code_lt : ∀ {P : List Nat}, (∀ d, d ∈ P → d < 6) → gw_code P < 7 ^ P.length
  | [], _ => by decide
  | d :: ds, h => by
    have h1 := h d (by simp)
    have h2 := gw_code_lt (P := ds) (fun e he => h e (by simp [he]))
    simp only [gw_code, List.length_cons, Nat.pow_succ]
    omega
theorem gw_code_4 {P : List Nat} (hP : gw_okP P) : gw_code P < 2401 := by
  have h1 := gw_code_lt hP.2.2
  have h2 : 7 ^ P.length ≤ 7 ^ 4 := Nat.pow_le_pow_right (n := 7) (by decide) hP.2.1
  omega
theorem gw_code_pos {P : List Nat} (hP : gw_okP P) : 0 < gw_code P := by
  cases P with
  | nil => exact absurd hP.1 (by simp)
  | cons d ds => simp only [gw_code]; omega
theorem gw_code_inj : ∀ {P Q : List Nat}, (∀ d, d ∈ P → d < 6) → (∀ d, d ∈ Q → d < 6) → gw_code P = gw_code Q → P = Q
  | [], [], _, _, _ => rfl
  | [], d :: ds, _, _, h => by simp only [gw_code] at h; omega
  | d :: ds, [], _, _, h => by simp only [gw_code] at h; omega
  | d :: ds, e :: es, h1, h2, h => by
    have a := h1 d (by simp)
    have b := h2 e (by simp)
    simp only [gw_code] at h
    have h3 : d = e := by omega
    have h4 : gw_code ds = gw_code es := by omega
    rw [h3, gw_code_inj (fun x hx => h1 x (by simp [hx])) (fun x hx => h2 x (by simp [hx])) h4]
theorem gw_getD_mem {L : List Nat} {i : Nat} (h : i < L.length) : L.getD i 0 ∈ L := by
  rw [List.getD_eq_getElem?_getD, List.getElem?_eq_getElem h]
  exact List.getElem_mem h
theorem gw_drop {L : List Nat} {i : Nat} (h : i < L.length) : L.drop i = L.getD i 0 :: L.drop (i + 1) := by
  rw [List.drop_eq_getElem_cons h, List.getD_eq_getElem?_getD, List.getElem?_eq_getElem h]
  rfl
/-! a reader's pile: forms, the top first -/
def gw_pl (p : Nat → Int32) (b : Nat) : List Nat → Prop
  | [] => True
  | f :: L => p (b + L.length) = nI f ∧ gw_pl p b L
def gw_ok (R : Nat → List Nat) : List Nat → Prop
  | [] => True
  | f :: L => (f < 78 ∧ L.length + 3 * (f % 13) ≤ 38 ∧ (gx_fx R f).length ≠ 0) ∧ gw_ok R L
def gw_rd (R : Nat → List Nat) (t p : Nat → Int32) (r : Nat) (L : List Nat) : Prop := t r = nI L.length ∧ gw_pl p (64 * r) L ∧ gw_ok R L
theorem gw_ok_len {R : Nat → List Nat} {L : List Nat} (h : gw_ok R L) : L.length ≤ 39 := by
  cases L with
  | nil => simp
  | cons f L =>
    have := h.1.2.1
    simp only [List.length_cons]
    omega
theorem gw_pl_keep {p p' : Nat → Int32} {b : Nat} : ∀ {L : List Nat}, gw_pl p b L → (∀ j, b ≤ j → j < b + L.length → p' j = p j) → gw_pl p' b L
  | [], _, _ => trivial
  | f :: L, h, e => ⟨by rw [e (b + L.length) (by omega) (by simp only [List.length_cons]; omega)]; exact h.1, gw_pl_keep h.2 (fun j h1 h2 => e j h1 (by simp only [List.length_cons]; omega))⟩
theorem gw_pl_push {p : Nat → Int32} {b f : Nat} {L : List Nat} (h : gw_pl p b L) : gw_pl (upd p (b + L.length) (nI f)) b (f :: L) :=
  ⟨pk_us, gw_pl_keep h (fun j h1 h2 => pk_un (by omega))⟩
theorem gx_ne_cons {R : Nat → List Nat} (f : Nat) (L : List Nat) : gx_ne R (f :: L) = if (gx_fx R f).length = 0 then gx_ne R L else f :: gx_ne R L := by
  unfold gx_ne
  rw [List.filter_cons]
  by_cases h : (gx_fx R f).length = 0
  · simp [h]
  · simp [h]
theorem gw_ok_app {R : Nat → List Nat} {l : Nat} {L : List Nat} (hl : l < 13) (hL : gw_ok R L) : ∀ ds : List Nat, (∀ d, d ∈ ds → d < 6) → ds.length + L.length + 3 * l ≤ 39 → gw_ok R (gx_ne R (gx_ch ds l) ++ L) ∧ (gx_ne R (gx_ch ds l)).length ≤ ds.length
  | [], _, _ => ⟨hL, Nat.le_refl 0⟩
  | d :: ds, hd, hs => by
    have h6 := hd d (by simp)
    simp only [List.length_cons] at hs
    obtain ⟨i1, i2⟩ := gw_ok_app hl hL ds (fun e he => hd e (by simp [he])) (by omega)
    by_cases h : (gx_fx R (13 * d + l)).length = 0
    · have e : gx_ne R (gx_ch (d :: ds) l) = gx_ne R (gx_ch ds l) := by
        show gx_ne R ((13 * d + l) :: gx_ch ds l) = _
        rw [gx_ne_cons, if_pos h]
      rw [e]
      exact ⟨i1, by simp only [List.length_cons]; omega⟩
    · have e : gx_ne R (gx_ch (d :: ds) l) = (13 * d + l) :: gx_ne R (gx_ch ds l) := by
        show gx_ne R ((13 * d + l) :: gx_ch ds l) = _
        rw [gx_ne_cons, if_neg h]
      rw [e]
      refine ⟨⟨⟨by omega, ?_, h⟩, i1⟩, by simp only [List.length_cons]; omega⟩
      show (gx_ne R (gx_ch ds l) ++ L).length + 3 * ((13 * d + l) % 13) ≤ 38
      rw [List.length_append, show (13 * d + l) % 13 = l by omega]
      omega
theorem gx_ch_drop {ds : List Nat} {l k : Nat} (h : k < ds.length) : gx_ch (ds.drop k) l = (13 * ds.getD k 0 + l) :: gx_ch (ds.drop (k + 1)) l := by
  rw [gw_drop h]
  rfl
end
section
/-! the readers: form, levelOf, letterOf, nextForm, pushForm, beginReader, openForm -/
theorem gp_form {post : Int32 → Prop} {x y : Int32} (c l : Nat) (hx : x = nI c) (hy : y = nI l) (h : post (nI (13 * c + l))) : wpX_form post () x y := by
  subst hx hy
  show post (nI 13 * nI c + nI l)
  rw [gn_lin]
  exact h
theorem gp_level {post : Int32 → Prop} (f : Nat) (hf : f < 2 ^ 31) (h : post (nI (f % 13))) : wpX_levelOf post () (nI f) := by
  refine ⟨by decide, ?_⟩
  show post (nI f - nI f / nI 13 * nI 13)
  rw [pk_rem hf (by decide) (by decide)]
  exact h
theorem gp_letter {post : Int32 → Prop} (f : Nat) (hf : f < 2 ^ 31) (h : post (nI (f / 13))) : wpX_letterOf post () (nI f) := by
  refine ⟨by decide, ?_⟩
  show post (nI f / nI 13)
  rw [pk_div hf (by decide) (by decide)]
  exact h
theorem gp_next {post : Int32 → Prop} (u : St1) {t p : Nat → Int32} {r : Nat} {L : List Nat} (hr : r < 2) (ht : t r = nI L.length) (hp : gw_pl p (64 * r) L) (hl : L.length ≤ 39) (h0 : L = [] → post (-1)) (h1 : ∀ f L', L = f :: L' → post (nI f)) : wpX_nextForm post (gs_tp u t p) (nI r) := by
  show vp_in (nI r) 2 ∧ (((t (nI r).toNatClampNeg) = 0 → post (-1)) ∧ (¬ (t (nI r).toNatClampNeg) = 0 → (vp_in (nI r) 2 ∧ (vp_in (((64 * nI r) + (t (nI r).toNatClampNeg)) - 1) 128 ∧ (post (p (((64 * nI r) + (t (nI r).toNatClampNeg)) - 1).toNatClampNeg))))))
  rw [nI_clamp (by omega), ht]
  refine ⟨vp_in_nI hr (by decide), ?_⟩
  cases L with
  | nil => exact br_t rfl (h0 rfl)
  | cons f L =>
    have hl' : L.length + 1 ≤ 39 := hl
    refine br_f (nI_ne0 (by simp) (by simp only [List.length_cons]; omega)) ?_
    have e : 64 * nI r + nI (f :: L).length - 1 = nI (64 * r + L.length) := by
      show nI 64 * nI r + nI (L.length + 1) - 1 = _
      rw [pk_mul, nI_add, show 64 * r + (L.length + 1) = (64 * r + L.length) + 1 by omega, nI_pred]
    rw [e]
    refine ⟨vp_in_nI hr (by decide), vp_in_nI (by omega) (by decide), ?_⟩
    rw [nI_clamp (by omega), hp.1]
    exact h1 f L rfl
theorem gp_push {post : St1 → Prop} (u : St1) {t p : Nat → Int32} {r f m : Nat} {L : List Nat} (hr : r < 2) (hf : f < 78) (h5 : gw_a5 u f = nI m) (hm : m < 2 ^ 31) (ht : t r = nI L.length) (hl : L.length < 64)
    (h0 : m = 0 → post (gs_tp u t p)) (h1 : m ≠ 0 → post (gs_tp u (upd t r (nI (L.length + 1))) (upd p (64 * r + L.length) (nI f)))) : wpX_pushForm post (gs_tp u t p) (nI r) (nI f) := by
  show vp_in (nI f) 78 ∧ ((gw_a5 u (nI f).toNatClampNeg ≤ 0 → post (gs_tp u t p)) ∧ (¬ gw_a5 u (nI f).toNatClampNeg ≤ 0 → (vp_in (nI r) 2 ∧ (vp_in (64 * nI r + t (nI r).toNatClampNeg) 128 ∧ ∀ p', p' = upd p (64 * nI r + t (nI r).toNatClampNeg).toNatClampNeg (nI f) → (vp_in (nI r) 2 ∧ (vp_in (nI r) 2 ∧ ∀ t', t' = upd t (nI r).toNatClampNeg (t (nI r).toNatClampNeg + 1) → post (gs_tp u t' p')))))))
  rw [nI_clamp (show f < 2 ^ 31 by omega), nI_clamp (show r < 2 ^ 31 by omega), ht, h5]
  have e : 64 * nI r + nI L.length = nI (64 * r + L.length) := gn_lin 64 r L.length
  rw [e, nI_clamp (show 64 * r + L.length < 2 ^ 31 by omega), nI_1]
  refine ⟨vp_in_nI hf (by decide), ?_⟩
  by_cases hz : m = 0
  · exact br_t (by rw [hz]; decide) (h0 hz)
  · exact br_f (nI_nle (by omega) hm) ⟨vp_in_nI hr (by decide), vp_in_nI (by omega) (by decide), nm_e ⟨vp_in_nI hr (by decide), vp_in_nI hr (by decide), nm_e (h1 hz)⟩⟩
/-- what has been pushed: children behind k, ahead of the pile below -/
def gw_pu (R : Nat → List Nat) (ds : List Nat) (l : Nat) (L : List Nat) (t p : Nat → Int32) (r k : Nat) (s : (Nat → Int32) × (Nat → Int32)) : Prop :=
  s.1 r = nI (gx_ne R (gx_ch (ds.drop k) l) ++ L).length ∧ gw_pl s.2 (64 * r) (gx_ne R (gx_ch (ds.drop k) l) ++ L) ∧ (∀ q, q ≠ r → s.1 q = t q) ∧ ∀ j, (j < 64 * r ∨ 64 * r + 64 ≤ j) → s.2 j = p j
theorem gw_pu_step {R : Nat → List Nat} {ds : List Nat} {l : Nat} {L : List Nat} {t p : Nat → Int32} {r k : Nat} {s : (Nat → Int32) × (Nat → Int32)} (hk : k < ds.length) (hlen : (gx_ne R (gx_ch (ds.drop (k + 1)) l) ++ L).length < 64) (h : gw_pu R ds l L t p r (k + 1) s) :
    ((gx_fx R (13 * ds.getD k 0 + l)).length = 0 → gw_pu R ds l L t p r k s) ∧ ((gx_fx R (13 * ds.getD k 0 + l)).length ≠ 0 → gw_pu R ds l L t p r k (upd s.1 r (nI ((gx_ne R (gx_ch (ds.drop (k + 1)) l) ++ L).length + 1)), upd s.2 (64 * r + (gx_ne R (gx_ch (ds.drop (k + 1)) l) ++ L).length) (nI (13 * ds.getD k 0 + l)))) := by
  obtain ⟨h1, h2, h3, h4⟩ := h
  constructor
  · intro hz
    unfold gw_pu
    rw [gx_ch_drop hk, gx_ne_cons, if_pos hz]
    exact ⟨h1, h2, h3, h4⟩
  · intro hz
    unfold gw_pu
    rw [gx_ch_drop hk, gx_ne_cons, if_neg hz]
    refine ⟨pk_us, gw_pl_push h2, fun q hq => ?_, fun j hj => ?_⟩
    · show upd s.1 r _ q = t q
      rw [pk_un hq]
      exact h3 q hq
    · show upd s.2 _ _ j = p j
      rw [pk_un (by omega)]
      exact h4 j hj
theorem gp_begin {post : St1 → Prop} {R : Nat → List Nat} {F : List Nat} (u : St1) {t p : Nat → Int32} {r n : Nat} (hr : r < 2) (hn : n < 13) (hR : gx_okR R) (hF : gx_okF F) (hf : gw_fst F (gw_fs u) (gw_a3 u)) (h5 : gw_siz R (gw_a5 u))
    (h : ∀ t' p' L, gw_rd R t' p' r L → gx_tx R L = gx_W R F n → L = gx_ne R (gx_ch F n) → (∀ q, q ≠ r → t' q = t q) → (∀ j, (j < 64 * r ∨ 64 * r + 64 ≤ j) → p' j = p j) → post (gs_tp u t' p')) : wpX_beginReader post (gs_tp u t p) (nI r) (nI n) := by
  have hF3 := hF.2.1
  have hd : ∀ k d, d ∈ F.drop k → d < 6 := fun k d hd => hF.2.2 d (List.mem_of_mem_drop hd)
  have hlen : ∀ k, (gx_ne R (gx_ch (F.drop k) n) ++ []).length < 64 := by
    intro k
    have h1 := (gw_ok_app (R := R) (L := []) (l := n) hn trivial (F.drop k) (hd k) (by rw [List.length_drop]; simp only [List.length_nil]; omega)).2
    rw [List.length_drop] at h1
    rw [List.append_nil]
    omega
  show vp_in (nI r) 2 ∧ ∀ x, x = upd t (nI r).toNatClampNeg 0 → ∀ y, y = gw_fs u - 1 → ∃ fu, lo_beg14 post (nI r) (nI n) fu y (gs_tp u x p)
  refine ⟨pk_in r 2 hr, nm_r (e' := upd t r (nI 0)) (by rw [nI_clamp (by omega)]; rfl) (nm_r (e' := nI F.length - 1) (by rw [hf.1]) ⟨F.length + 1, ?_⟩)⟩
  refine pk_loopD (fun m k s => lo_beg14 post (nI r) (nI n) m (nI k - 1) (gs_tp u s.1 s.2)) (fun k s => k ≤ F.length ∧ gw_pu R F n [] t p r k s) ?_ ?_ F.length (upd t r (nI 0), p) ⟨Nat.le_refl _, ?_⟩
  · intro m s hs
    obtain ⟨_, h1, h2, h3, h4⟩ := hs
    rw [List.append_nil, List.drop_zero] at h1 h2
    have hok := (gw_ok_app (R := R) (L := []) (l := n) hn trivial F hF.2.2 (by simp only [List.length_nil]; omega)).1
    rw [List.append_nil] at hok
    refine br_t gn_m1lt (h s.1 s.2 (gx_ne R (gx_ch F n)) ⟨h1, h2, hok⟩ ?_ rfl h3 h4)
    rw [gx_tx_ne, gx_tx_ch hn]
    rfl
  · intro m k s hs hw
    obtain ⟨hk, hs⟩ := hs
    show lo_beg14 post (nI r) (nI n) (m + 1) (nI (k + 1) - 1) (gs_tp u s.1 s.2)
    rw [nI_pred]
    show (nI k < 0 → post (gs_tp u s.1 s.2)) ∧ (¬ nI k < 0 → vp_in (nI k) 8 ∧ wpX_form (fun g => wpX_pushForm (fun w => ∀ x, x = nI k + (-1) → lo_beg14 post (nI r) (nI n) m x w) (gs_tp u s.1 s.2) (nI r) g) () (gw_a3 u (nI k).toNatClampNeg) (nI n))
    have hstep := gw_pu_step (R := R) (by omega) (hlen (k + 1)) hs
    have h6 : F.getD k 0 < 6 := hF.2.2 _ (gw_getD_mem (by omega))
    refine br_f (nI_pos (by omega)) ⟨pk_in k 8 (by omega), gp_form (F.getD k 0) n ?_ rfl ?_⟩
    · rw [nI_clamp (by omega)]
      exact hf.2 k (by omega)
    · refine gp_push u hr (show 13 * F.getD k 0 + n < 78 by omega) (h5 _ (by omega)) (Nat.lt_of_le_of_lt (gx_fx_len hR (by omega)) (by decide)) hs.1 (hlen (k + 1)) (fun hz => ?_) (fun hz => ?_)
      · exact nm_r (gn_dec k) (hw _ ⟨by omega, hstep.1 hz⟩)
      · exact nm_r (gn_dec k) (hw _ ⟨by omega, hstep.2 hz⟩)
  · unfold gw_pu
    rw [List.drop_length]
    exact ⟨pk_us, trivial, fun q hq => pk_un hq, fun j _ => rfl⟩
theorem gp_open {post : St1 → Prop} {R : Nat → List Nat} (u : St1) {t p : Nat → Int32} {f : Nat} {L : List Nat} (hR : gx_okR R) (hr : gw_rul R (gw_a1 u) (gw_a2 u)) (h5 : gw_siz R (gw_a5 u)) (hL : gw_rd R t p 0 (f :: L)) (hv : f % 13 ≠ 0)
    (h : ∀ t' p', gw_rd R t' p' 0 (gx_ne R (gx_ch (R (f / 13)) (f % 13 - 1)) ++ L) → post (gs_tp u t' p')) : wpX_openForm post (gs_tp u t p) (nI 0) := by
  obtain ⟨hl1, hl2, ⟨hf, hb, hne⟩, hok⟩ := hL
  have hlen39 := gw_ok_len (show gw_ok R (f :: L) from ⟨⟨hf, hb, hne⟩, hok⟩)
  have hR6 := hR (f / 13) (by omega)
  have hru := hr (f / 13) (by omega)
  have hd : ∀ k d, d ∈ (R (f / 13)).drop k → d < 6 := fun k d hd => hR6.2 d (List.mem_of_mem_drop hd)
  have hlen : ∀ k, (gx_ne R (gx_ch ((R (f / 13)).drop k) (f % 13 - 1)) ++ L).length < 64 := by
    intro k
    have h1 := (gw_ok_app (R := R) (L := L) (l := f % 13 - 1) (by omega) hok ((R (f / 13)).drop k) (hd k) (by rw [List.length_drop]; omega)).2
    rw [List.length_drop] at h1
    rw [List.length_append]
    omega
  show wpX_nextForm (fun r => vp_in (nI 0) 2 ∧ (vp_in (nI 0) 2 ∧ ∀ x, x = upd t (nI 0).toNatClampNeg (t (nI 0).toNatClampNeg - 1) → wpX_letterOf (fun c => wpX_levelOf (fun l => vp_in c 6 ∧ ∀ y, y = gw_a1 u c.toNatClampNeg - 1 → ∃ fu, lo_open37 post (nI 0) c l fu y (gs_tp u x p)) () r) () r)) (gs_tp u t p) (nI 0)
  refine gp_next u (L := f :: L) (by omega) hl1 hl2 hlen39 (fun z => by cases z) (fun f' L' z => ?_)
  obtain ⟨rfl, rfl⟩ := List.cons.inj z
  refine ⟨pk_in 0 2 (by omega), pk_in 0 2 (by omega), nm_r (e' := upd t 0 (nI L.length)) (by rw [show (nI 0).toNatClampNeg = 0 from rfl, hl1]; show upd t 0 (nI (L.length + 1) - 1) = _; rw [nI_pred]) ?_⟩
  refine gp_letter f (by omega) (gp_level f (by omega) ⟨pk_in (f / 13) 6 (by omega), nm_r (e' := nI (R (f / 13)).length - 1) ?_ ⟨(R (f / 13)).length + 1, ?_⟩⟩)
  · rw [nI_clamp (by omega)]
    rw [hru.1]
  refine pk_loopD (fun m k s => lo_open37 post (nI 0) (nI (f / 13)) (nI (f % 13)) m (nI k - 1) (gs_tp u s.1 s.2)) (fun k s => k ≤ (R (f / 13)).length ∧ gw_pu R (R (f / 13)) (f % 13 - 1) L t p 0 k s) ?_ ?_ (R (f / 13)).length (upd t 0 (nI L.length), p) ⟨Nat.le_refl _, ?_⟩
  · intro m s hs
    obtain ⟨_, h1, h2, h3, h4⟩ := hs
    rw [List.drop_zero] at h1 h2
    have hok' := (gw_ok_app (R := R) (L := L) (l := f % 13 - 1) (by omega) hok (R (f / 13)) hR6.2 (by omega)).1
    exact br_t gn_m1lt (h s.1 s.2 ⟨h1, h2, hok'⟩)
  · intro m k s hs hw
    obtain ⟨hk, hs⟩ := hs
    show lo_open37 post (nI 0) (nI (f / 13)) (nI (f % 13)) (m + 1) (nI (k + 1) - 1) (gs_tp u s.1 s.2)
    rw [nI_pred]
    show (nI k < 0 → post (gs_tp u s.1 s.2)) ∧ (¬ nI k < 0 → vp_in (4 * nI (f / 13) + nI k) 24 ∧ wpX_form (fun g => wpX_pushForm (fun w => ∀ x, x = nI k + (-1) → lo_open37 post (nI 0) (nI (f / 13)) (nI (f % 13)) m x w) (gs_tp u s.1 s.2) (nI 0) g) () (gw_a2 u (4 * nI (f / 13) + nI k).toNatClampNeg) (nI (f % 13) - 1))
    have hstep := gw_pu_step (R := R) (by omega) (hlen (k + 1)) hs
    have h6 : (R (f / 13)).getD k 0 < 6 := hR6.2 _ (gw_getD_mem (by omega))
    have hR4 := hR6.1
    have e4 : 4 * nI (f / 13) + nI k = nI (4 * (f / 13) + k) := gn_lin 4 (f / 13) k
    refine br_f (nI_pos (by omega)) ⟨by rw [e4]; exact pk_in (4 * (f / 13) + k) 24 (by omega), gp_form ((R (f / 13)).getD k 0) (f % 13 - 1) ?_ ?_ ?_⟩
    · rw [e4, nI_clamp (by omega)]
      exact hru.2 k (by omega)
    · exact pk_sub (a := f % 13) (b := 1) (by omega)
    · refine gp_push u (by omega) (show 13 * (R (f / 13)).getD k 0 + (f % 13 - 1) < 78 by omega) (h5 _ (by omega)) (Nat.lt_of_le_of_lt (gx_fx_len hR (by omega)) (by decide)) hs.1 (hlen (k + 1)) (fun hz => ?_) (fun hz => ?_)
      · exact nm_r (gn_dec k) (hw _ ⟨by omega, hstep.1 hz⟩)
      · exact nm_r (gn_dec k) (hw _ ⟨by omega, hstep.2 hz⟩)
  · unfold gw_pu
    rw [List.drop_length]
    exact ⟨(pk_us : upd t 0 (nI L.length) 0 = nI L.length), hl2.2, fun q hq => pk_un hq, fun j _ => rfl⟩
end
section
/-! the readers: skip, read, countBefore, common's loop -/
def gw_top : List Nat → Int32
  | [] => -1
  | f :: _ => nI f
theorem gp_nextT {post : Int32 → Prop} (u : St1) {t p : Nat → Int32} {r : Nat} {L : List Nat} {R : Nat → List Nat} (hr : r < 2) (h : gw_rd R t p r L) (hp : post (gw_top L)) : wpX_nextForm post (gs_tp u t p) (nI r) := by
  refine gp_next u hr h.1 h.2.1 (gw_ok_len h.2.2) (fun z => ?_) (fun f L' z => ?_)
  · subst z; exact hp
  · subst z; exact hp
theorem gw_rd_pop {R : Nat → List Nat} {t p : Nat → Int32} {f : Nat} {L : List Nat} {r : Nat} (h : gw_rd R t p r (f :: L)) : gw_rd R (upd t r (nI L.length)) p r L := ⟨pk_us, h.2.1.2, h.2.2.2⟩
theorem gw_dec1 {t : Nat → Int32} {f : Nat} {L : List Nat} {r : Nat} (h : t r = nI (f :: L).length) : upd t r (t r - 1) = upd t r (nI L.length) := by
  rw [h]
  show upd t r (nI (L.length + 1) - 1) = _
  rw [nI_pred]
theorem gx_ch_mem {R : Nat → List Nat} {ds : List Nat} {l f : Nat} (hl : l < 13) (h : f ∈ gx_ne R (gx_ch ds l)) : f % 13 = l := by
  unfold gx_ne gx_ch at h
  rw [List.mem_filter, List.mem_map] at h
  obtain ⟨⟨d, _, rfl⟩, _⟩ := h
  omega
theorem gx_ch_len {R : Nat → List Nat} {ds : List Nat} {l : Nat} : (gx_ne R (gx_ch ds l)).length ≤ ds.length := by
  unfold gx_ne gx_ch
  exact Nat.le_trans (List.length_filter_le _ _) (by simp)
theorem gx_tx_len {R : Nat → List Nat} (f : Nat) (L : List Nat) : (gx_tx R (f :: L)).length = (gx_fx R f).length + (gx_tx R L).length := by
  rw [gx_tx_cons, List.length_append]
theorem gp_skipL {post : St1 → Prop} {R : Nat → List Nat} (u : St1) (hR : gx_okR R) (hr : gw_rul R (gw_a1 u) (gw_a2 u)) (h5 : gw_siz R (gw_a5 u)) : ∀ (n : Nat) (as bs : List Nat) (lv k i : Nat) (t p : Nat → Int32), as.length + 5 * lv < n → n + i ≤ 1000 → (∀ f, f ∈ as → f % 13 ≤ lv) → (bs = [] ∨ k ≤ (gx_tx R as).length) → gw_rd R t p 0 (as ++ bs) → k < 2 ^ 31 →
    (∀ t' p' L', gw_rd R t' p' 0 L' → gx_tx R L' = (gx_tx R (as ++ bs)).drop k → post (gs_tp u t' p')) → lo_skip12 post (nI 0) n (nI k) (gw_top (as ++ bs)) (nI i) (gs_tp u t p) := by
  intro n
  induction n with
  | zero => intro as bs lv k i t p h; omega
  | succ n ih =>
    intro as bs lv k i t p hb hi hlv hbs hrd hk h
    show (1000 ≤ nI i → post (gs_tp u t p)) ∧ (¬ 1000 ≤ nI i → ((nI k ≤ 0 → post (gs_tp u t p)) ∧ (¬ nI k ≤ 0 → ((gw_top (as ++ bs) < 0 → post (gs_tp u t p)) ∧ (¬ gw_top (as ++ bs) < 0 → vp_in (gw_top (as ++ bs)) 78 ∧ ((nI k < gw_a5 u (gw_top (as ++ bs)).toNatClampNeg → wpX_openForm (fun w => wpX_nextForm (fun r => ∀ x, x = nI i + 1 → lo_skip12 post (nI 0) n (nI k) r x w) w (nI 0)) (gs_tp u t p) (nI 0)) ∧ (¬ nI k < gw_a5 u (gw_top (as ++ bs)).toNatClampNeg → vp_in (gw_top (as ++ bs)) 78 ∧ ∀ y, y = nI k - gw_a5 u (gw_top (as ++ bs)).toNatClampNeg → vp_in (nI 0) 2 ∧ (vp_in (nI 0) 2 ∧ ∀ z, z = upd t (nI 0).toNatClampNeg (t (nI 0).toNatClampNeg - 1) → wpX_nextForm (fun r => ∀ x, x = nI i + 1 → lo_skip12 post (nI 0) n y r x (gs_tp u z p)) (gs_tp u z p) (nI 0)))))))))
    refine pk_le 1000 i (fun z => absurd z (by omega)) (fun _ => ?_)
    refine pk_le k 0 (fun z => ?_) (fun hk0 => ?_)
    · have hk0 : k = 0 := by omega
      subst hk0
      exact h t p _ hrd rfl
    cases as with
    | nil =>
      have hbs' : bs = [] := by
        rcases hbs with hbs | hbs
        · exact hbs
        · exact absurd hbs (by simp [gx_tx]; omega)
      subst hbs'
      exact br_t (show (-1 : Int32) < 0 by decide) (h t p [] hrd (by simp [gx_tx]))
    | cons f as =>
      have hf := hrd.2.2.1.1
      have hne := hrd.2.2.1.2.2
      have hfl := gx_fx_len hR hf
      have hlvf := hlv f (by simp)
      have ea : gw_a5 u (nI f).toNatClampNeg = nI (gx_fx R f).length := by
        rw [nI_clamp (by omega)]
        exact h5 f hf
      have hbl : (f :: as).length = as.length + 1 := rfl
      refine br_f (nI_pos (show f < 2 ^ 31 by omega)) ⟨pk_in f 78 hf, ?_⟩
      refine pk_lt k (gx_fx R f).length (fun hlt => ?_) (fun hge => ?_) rfl ea hk (by omega)
      · have hv : f % 13 ≠ 0 := by
          intro hv
          rw [gx_fx_0 hv] at hlt
          simp at hlt
          omega
        refine gp_open u (L := as ++ bs) hR hr h5 hrd hv (fun t' p' hrd' => ?_)
        refine gp_nextT u (by omega) hrd' (nm_r (nI_1 i) ?_)
        refine ih (gx_ne R (gx_ch (R (f / 13)) (f % 13 - 1))) (as ++ bs) (lv - 1) k (i + 1) t' p' ?_ (by omega) (fun g hg => ?_) (Or.inr ?_) hrd' hk (fun t2 p2 L2 hr2 e2 => h t2 p2 L2 hr2 ?_)
        · have h1 := gx_ch_len (R := R) (ds := R (f / 13)) (l := f % 13 - 1)
          have h2 := (hR (f / 13) (by omega)).1
          omega
        · have := gx_ch_mem (by omega) hg
          omega
        · rw [← gx_fx_open hv]
          omega
        · rw [e2, gx_tx_app, ← gx_fx_open hv]
          rfl
      · refine ⟨pk_in f 78 hf, nm_r (e' := nI (k - (gx_fx R f).length)) ((congrArg (fun y => nI k - y) ea).trans (pk_sub hge)) ⟨pk_in 0 2 (by omega), pk_in 0 2 (by omega), nm_r (e' := upd t 0 (nI (as ++ bs).length)) (gw_dec1 hrd.1) ?_⟩⟩
        refine gp_nextT u (by omega) (gw_rd_pop hrd) (nm_r (nI_1 i) ?_)
        refine ih as bs lv (k - (gx_fx R f).length) (i + 1) _ p (by omega) (by omega) (fun g hg => hlv g (by simp [hg])) ?_ (gw_rd_pop hrd) (by omega) (fun t2 p2 L2 hr2 e2 => h t2 p2 L2 hr2 ?_)
        · rcases hbs with hbs | hbs
          · exact Or.inl hbs
          · rw [gx_tx_len] at hbs
            exact Or.inr (by omega)
        · rw [e2]
          show _ = (gx_fx R f ++ gx_tx R (as ++ bs)).drop k
          rw [List.drop_append, List.drop_of_length_le hge, List.nil_append]
theorem gp_skip {post : St1 → Prop} {R : Nat → List Nat} (u : St1) {t p : Nat → Int32} {L : List Nat} {k : Nat} (hR : gx_okR R) (hr : gw_rul R (gw_a1 u) (gw_a2 u)) (h5 : gw_siz R (gw_a5 u)) (hrd : gw_rd R t p 0 L) (hk : k < 2 ^ 31)
    (h : ∀ t' p' L', gw_rd R t' p' 0 L' → gx_tx R L' = (gx_tx R L).drop k → post (gs_tp u t' p')) : wpX_skip post (gs_tp u t p) (nI 0) (nI k) := by
  show wpX_nextForm (fun r => ∃ fu, lo_skip12 post (nI 0) fu (nI k) r (nI 0) (gs_tp u t p)) (gs_tp u t p) (nI 0)
  refine gp_nextT u (by omega) hrd ⟨200, ?_⟩
  have h1 := gw_ok_len hrd.2.2
  have h2 := gp_skipL u hR hr h5 200 L [] 12 k 0 t p (by omega) (by omega) (fun f _ => by omega) (Or.inl rfl) (by rw [List.append_nil]; exact hrd) hk (by rw [List.append_nil]; exact h)
  rw [List.append_nil] at h2
  exact h2
theorem gp_readL {post : Int32 → St1 → Prop} {R : Nat → List Nat} (u : St1) (hR : gx_okR R) (hr : gw_rul R (gw_a1 u) (gw_a2 u)) (h5 : gw_siz R (gw_a5 u)) : ∀ (n f : Nat) (L : List Nat) (i : Nat) (t p : Nat → Int32), f % 13 < n → f % 13 + i < 13 → gw_rd R t p 0 (f :: L) →
    (∀ c T, gx_tx R (f :: L) = c :: T → ∀ t' p', post (nI c) (gs_tp u t' p')) → lo_read8 post (nI 0) n (nI f) (nI i) (gs_tp u t p) := by
  intro n
  induction n with
  | zero => intro f L i t p h; omega
  | succ n ih =>
    intro f L i t p hn hi hrd h
    have hf := hrd.2.2.1.1
    have hne := hrd.2.2.1.2.2
    show (13 ≤ nI i → ((0 ≤ nI f → vp_in (nI 0) 2 ∧ (vp_in (nI 0) 2 ∧ ∀ z, z = upd t (nI 0).toNatClampNeg (t (nI 0).toNatClampNeg - 1) → wpX_letterOf (fun c => post c (gs_tp u z p)) () (nI f))) ∧ (¬ 0 ≤ nI f → post (-1) (gs_tp u t p)))) ∧ (¬ 13 ≤ nI i → ((nI f < 0 → ((0 ≤ nI f → vp_in (nI 0) 2 ∧ (vp_in (nI 0) 2 ∧ ∀ z, z = upd t (nI 0).toNatClampNeg (t (nI 0).toNatClampNeg - 1) → wpX_letterOf (fun c => post c (gs_tp u z p)) () (nI f))) ∧ (¬ 0 ≤ nI f → post (-1) (gs_tp u t p)))) ∧ (¬ nI f < 0 → wpX_levelOf (fun l => (l ≤ 0 → ((0 ≤ nI f → vp_in (nI 0) 2 ∧ (vp_in (nI 0) 2 ∧ ∀ z, z = upd t (nI 0).toNatClampNeg (t (nI 0).toNatClampNeg - 1) → wpX_letterOf (fun c => post c (gs_tp u z p)) () (nI f))) ∧ (¬ 0 ≤ nI f → post (-1) (gs_tp u t p)))) ∧ (¬ l ≤ 0 → wpX_openForm (fun w => wpX_nextForm (fun r => ∀ x, x = nI i + 1 → lo_read8 post (nI 0) n r x w) w (nI 0)) (gs_tp u t p) (nI 0))) () (nI f))))
    refine pk_le 13 i (fun z => absurd z (by omega)) (fun _ => ?_)
    refine br_f (nI_pos (show f < 2 ^ 31 by omega)) (gp_level f (by omega) ?_)
    refine pk_le (f % 13) 0 (fun z => ?_) (fun z => ?_)
    · have hv : f % 13 = 0 := by omega
      refine br_t (nI_pos' (by omega)) ⟨pk_in 0 2 (by omega), pk_in 0 2 (by omega), nm_e (gp_letter f (by omega) ?_)⟩
      exact h (f / 13) (gx_tx R L) (by rw [gx_tx_cons, gx_fx_0 hv]; rfl) _ _
    · refine gp_open u hR hr h5 hrd (by omega) (fun t' p' hrd' => ?_)
      have e1 := gx_fx_open (R := R) (f := f) (by omega)
      cases hc : gx_ne R (gx_ch (R (f / 13)) (f % 13 - 1)) with
      | nil =>
        rw [hc] at e1
        rw [e1] at hne
        exact absurd rfl hne
      | cons g L2 =>
        have hg := gx_ch_mem (R := R) (ds := R (f / 13)) (l := f % 13 - 1) (f := g) (by omega) (by rw [hc]; simp)
        rw [hc] at hrd' e1
        refine gp_nextT u (by omega) hrd' (nm_r (nI_1 i) ?_)
        refine ih g (L2 ++ L) (i + 1) t' p' (by omega) (by omega) hrd' (fun c T e2 => h c T ?_)
        rw [← e2, gx_tx_cons, e1]
        show gx_tx R (g :: L2) ++ gx_tx R L = gx_tx R (g :: L2 ++ L)
        rw [gx_tx_app]
theorem gp_read {post : Int32 → St1 → Prop} {R : Nat → List Nat} (u : St1) {t p : Nat → Int32} {L : List Nat} {c : Nat} {T : List Nat} (hR : gx_okR R) (hr : gw_rul R (gw_a1 u) (gw_a2 u)) (h5 : gw_siz R (gw_a5 u)) (hrd : gw_rd R t p 0 L) (hT : gx_tx R L = c :: T)
    (h : ∀ t' p', post (nI c) (gs_tp u t' p')) : wpX_read post (gs_tp u t p) (nI 0) := by
  show wpX_nextForm (fun r => ∃ fu, lo_read8 post (nI 0) fu r (nI 0) (gs_tp u t p)) (gs_tp u t p) (nI 0)
  refine gp_nextT u (by omega) hrd ⟨13, ?_⟩
  cases L with
  | nil => cases hT
  | cons f L =>
    refine gp_readL u hR hr h5 13 f L 0 t p (by omega) (by omega) hrd (fun c' T' e => ?_)
    rw [hT] at e
    obtain ⟨rfl, _⟩ := List.cons.inj e
    exact h
theorem gp_letterOn {post : Int32 → St1 → Prop} {R : Nat → List Nat} {F : List Nat} (u : St1) {t p : Nat → Int32} {n k c : Nat} {T : List Nat} (hR : gx_okR R) (hF : gx_okF F) (hr : gw_rul R (gw_a1 u) (gw_a2 u)) (hf : gw_fst F (gw_fs u) (gw_a3 u)) (h5 : gw_siz R (gw_a5 u)) (hn : n < 13) (hk : k < 2 ^ 31) (hT : (gx_W R F n).drop k = c :: T)
    (h : ∀ t' p', post (nI c) (gs_tp u t' p')) : wpX_letterOn post (gs_tp u t p) (nI n) (nI k) := by
  show wpX_beginReader (fun w => wpX_skip (fun w' => wpX_read post w' (nI 0)) w (nI 0) (nI k)) (gs_tp u t p) (nI 0) (nI n)
  refine gp_begin (r := 0) u (by omega) hn hR hF hf h5 (fun t1 p1 L1 hr1 e1 _ _ _ => ?_)
  refine gp_skip u hR hr h5 hr1 hk (fun t2 p2 L2 hr2 e2 => ?_)
  refine gp_read u (c := c) (T := T) hR hr h5 hr2 (by rw [e2, e1, hT]) (fun t3 p3 => h t3 p3)
theorem gp_cbL {post : Int32 → St1 → Prop} {R : Nat → List Nat} (u : St1) {d : Nat} (hd : d < 6) (hR : gx_okR R) (h5 : gw_siz R (gw_a5 u)) (h6 : gw_num R (gw_a6 u)) : ∀ (n : Nat) (L t1 : List Nat) (i : Nat) (t p : Nat → Int32), L.length < n → L.length + i < 1000 → gw_rd R t p 0 L → (gx_tx R L).length < 2 ^ 31 →
    (∀ t' p', post (nI ((t1 ++ gx_tx R L).count d)) (gs_tp u t' p')) → lo_cb22 post (nI d) n (nI (gx_tx R L).length) (nI (t1.count d)) (gw_top L) (nI i) (gs_tp u t p) := by
  intro n
  induction n with
  | zero => intro L t1 i t p h; omega
  | succ n ih =>
    intro L t1 i t p hn hi hrd hlt h
    show (1000 ≤ nI i → post (nI (t1.count d)) (gs_tp u t p)) ∧ (¬ 1000 ≤ nI i → ((nI (gx_tx R L).length ≤ 0 → post (nI (t1.count d)) (gs_tp u t p)) ∧ (¬ nI (gx_tx R L).length ≤ 0 → ((gw_top L < 0 → post (nI (t1.count d)) (gs_tp u t p)) ∧ (¬ gw_top L < 0 → vp_in (gw_top L) 78 ∧ ((nI (gx_tx R L).length < gw_a5 u (gw_top L).toNatClampNeg → wpX_openForm (fun w => wpX_nextForm (fun r => ∀ x, x = nI i + 1 → lo_cb22 post (nI d) n (nI (gx_tx R L).length) (nI (t1.count d)) r x w) w (nI 0)) (gs_tp u t p) (nI 0)) ∧ (¬ nI (gx_tx R L).length < gw_a5 u (gw_top L).toNatClampNeg → vp_in (gw_top L) 78 ∧ ∀ y, y = nI (gx_tx R L).length - gw_a5 u (gw_top L).toNatClampNeg → vp_in (6 * gw_top L + nI d) 468 ∧ ∀ q, q = nI (t1.count d) + gw_a6 u (6 * gw_top L + nI d).toNatClampNeg → ∀ z, z = upd t 0 (t 0 - 1) → wpX_nextForm (fun r => ∀ x, x = nI i + 1 → lo_cb22 post (nI d) n y q r x (gs_tp u z p)) (gs_tp u z p) (nI 0))))))))
    refine pk_le 1000 i (fun z => absurd z (by omega)) (fun _ => ?_)
    cases L with
    | nil =>
      refine br_t (show nI 0 ≤ 0 by decide) ?_
      have := h t p
      rw [show gx_tx R [] = [] from rfl, List.append_nil] at this
      exact this
    | cons f L =>
      have hf := hrd.2.2.1.1
      have hne := hrd.2.2.1.2.2
      have hfl := gx_fx_len hR hf
      have e1 := gx_tx_len (R := R) f L
      have hbl : (f :: L).length = L.length + 1 := rfl
      have ea : gw_a5 u (nI f).toNatClampNeg = nI (gx_fx R f).length := by
        rw [nI_clamp (by omega)]
        exact h5 f hf
      have e6 : 6 * gw_top (f :: L) + nI d = nI (6 * f + d) := gn_lin 6 f d
      refine br_f (nI_nle (by omega) (by omega)) (br_f (nI_pos (show f < 2 ^ 31 by omega)) ⟨pk_in f 78 hf, ?_⟩)
      refine pk_lt (gx_tx R (f :: L)).length (gx_fx R f).length (fun hlt => absurd hlt (by omega)) (fun hge => ?_) rfl ea (by omega) (by omega)
      refine ⟨pk_in f 78 hf, nm_r (e' := nI (gx_tx R L).length) ((congrArg (fun y => nI (gx_tx R (f :: L)).length - y) ea).trans ((pk_sub hge).trans (congrArg nI (by omega)))) ⟨by rw [e6]; exact pk_in (6 * f + d) 468 (by omega), nm_r (e' := nI ((t1 ++ gx_fx R f).count d)) ?_ (nm_r (e' := upd t 0 (nI L.length)) (gw_dec1 hrd.1) ?_)⟩⟩
      · rw [e6, nI_clamp (by omega), List.count_append, ← nI_add]
        exact congrArg (fun y => nI (t1.count d) + y) (h6 f d hf hd)
      · refine gp_nextT u (by omega) (gw_rd_pop hrd) (nm_r (nI_1 i) ?_)
        refine ih L (t1 ++ gx_fx R f) (i + 1) _ p (by omega) (by omega) (gw_rd_pop hrd) (by omega) (fun t2 p2 => ?_)
        have := h t2 p2
        rw [gx_tx_cons, ← List.append_assoc] at this
        exact this
theorem gp_cbA {post : Int32 → St1 → Prop} {R : Nat → List Nat} {F : List Nat} (u : St1) {t p : Nat → Int32} {n d : Nat} (hd : d < 6) (hn : n < 13) (hR : gx_okR R) (hF : gx_okF F) (hf : gw_fst F (gw_fs u) (gw_a3 u)) (h5 : gw_siz R (gw_a5 u)) (h6 : gw_num R (gw_a6 u))
    (h : ∀ t' p', post (nI ((gx_W R F n).count d)) (gs_tp u t' p')) : wpX_countBefore post (gs_tp u t p) (nI n) (nI d) (nI (gx_W R F n).length) := by
  show wpX_beginReader (fun w => wpX_nextForm (fun r => ∃ fu, lo_cb22 post (nI d) fu (nI (gx_W R F n).length) (nI 0) r (nI 0) w) w (nI 0)) (gs_tp u t p) (nI 0) (nI n)
  refine gp_begin (r := 0) u (by omega) hn hR hF hf h5 (fun t1 p1 L1 hr1 e1 _ _ _ => ?_)
  refine gp_nextT u (by omega) hr1 ⟨40, ?_⟩
  have h1 := gw_ok_len hr1.2.2
  have h2 := gx_W_len hR hF (n := n) (by omega)
  have h3 := gp_cbL (post := post) u hd hR h5 h6 40 L1 [] 0 t1 p1 (by omega) (by omega) hr1 (by rw [e1]; omega) (by rw [e1, List.nil_append]; exact h)
  rw [e1] at h3
  exact h3
theorem gp_cb0 {post : Int32 → St1 → Prop} {R : Nat → List Nat} {F : List Nat} (u : St1) {t p : Nat → Int32} {n d : Nat} (hn : n < 13) (hR : gx_okR R) (hF : gx_okF F) (hf : gw_fst F (gw_fs u) (gw_a3 u)) (h5 : gw_siz R (gw_a5 u))
    (h : ∀ t' p', post (nI 0) (gs_tp u t' p')) : wpX_countBefore post (gs_tp u t p) (nI n) (nI d) (nI 0) := by
  show wpX_beginReader (fun w => wpX_nextForm (fun r => ∃ fu, lo_cb22 post (nI d) fu (nI 0) (nI 0) r (nI 0) w) w (nI 0)) (gs_tp u t p) (nI 0) (nI n)
  refine gp_begin (r := 0) u (by omega) hn hR hF hf h5 (fun t1 p1 L1 hr1 e1 _ _ _ => ?_)
  refine gp_nextT u (by omega) hr1 ⟨1, ?_⟩
  show lo_cb22 post (nI d) 1 (nI 0) (nI 0) (gw_top L1) (nI 0) (gs_tp u t1 p1)
  exact pk_le 1000 0 (fun z => absurd z (by omega)) (fun _ => pk_le 0 0 (fun _ => h t1 p1) (fun z => absurd z (by omega)))
theorem gp_comL {post : Int32 → St1 → Prop} {R : Nat → List Nat} (u : St1) (h5 : gw_siz R (gw_a5 u)) : ∀ (n : Nat) (L : List Nat) (i m : Nat) (t p : Nat → Int32), L.length < n → L.length + i < 400000 → gw_rd R t p 0 L → gw_rd R t p 1 L →
    (∀ t' p', post (nI (m + (gx_tx R L).length)) (gs_tp u t' p')) → lo_com79 post n (nI m) (gw_top L) (gw_top L) (nI i) (gs_tp u t p) := by
  intro n
  induction n with
  | zero => intro L i m t p h; omega
  | succ n ih =>
    intro L i m t p hn hi hrd hrd1 h
    refine pk_le 400000 i (fun z => absurd z (by omega)) (fun _ => ?_)
    cases L with
    | nil => exact br_t (show (-1 : Int32) < 0 by decide) (h t p)
    | cons f L =>
      have hf := hrd.2.2.1.1
      have hbl : (f :: L).length = L.length + 1 := rfl
      have ea : gw_a5 u (nI f).toNatClampNeg = nI (gx_fx R f).length := by
        rw [nI_clamp (by omega)]
        exact h5 f hf
      refine br_f (nI_pos (show f < 2 ^ 31 by omega)) (br_f (nI_pos (show f < 2 ^ 31 by omega)) (br_t rfl ⟨pk_in f 78 hf, nm_r (e' := nI (m + (gx_fx R f).length)) ((congrArg (fun y => nI m + y) ea).trans (nI_add _ _)) (nm_r (e' := upd t 0 (nI L.length)) (gw_dec1 hrd.1) (nm_r (e' := upd (upd t 0 (nI L.length)) 1 (nI L.length)) ?_ ?_))⟩))
      · refine gw_dec1 (f := f) (L := L) ?_
        rw [pk_un (by decide)]
        exact hrd1.1
      · have r0 : gw_rd R (upd (upd t 0 (nI L.length)) 1 (nI L.length)) p 0 L := ⟨by rw [pk_un (by decide)]; exact pk_us, hrd.2.1.2, hrd.2.2.2⟩
        have r1 : gw_rd R (upd (upd t 0 (nI L.length)) 1 (nI L.length)) p 1 L := ⟨pk_us, hrd1.2.1.2, hrd1.2.2.2⟩
        refine gp_nextT u (r := 0) (by omega) r0 (gp_nextT u (r := 1) (by omega) r1 (nm_r (nI_1 i) ?_))
        refine ih L (i + 1) (m + (gx_fx R f).length) _ p (by omega) (by omega) r0 r1 (fun t2 p2 => ?_)
        have := h t2 p2
        rw [gx_tx_len, ← Nat.add_assoc] at this
        exact this
end
section
/-! learn: the pen and the runs are only walked through -/
theorem gl_tx {post : Int32 → Prop} {a b d : Int32} (h : ∀ r, post r) : wpX_turnedX post () a b d :=
  ⟨fun _ => h _, fun _ => ⟨fun _ => h _, fun _ => ⟨fun _ => h _, fun _ => ⟨fun _ => h _, fun _ => ⟨fun _ => h _, fun _ => trivial⟩⟩⟩⟩⟩
theorem gl_ty {post : Int32 → Prop} {a b d : Int32} (h : ∀ r, post r) : wpX_turnedY post () a b d :=
  ⟨fun _ => h _, fun _ => ⟨fun _ => h _, fun _ => ⟨fun _ => h _, fun _ => ⟨fun _ => h _, fun _ => ⟨fun _ => h _, fun _ => trivial⟩⟩⟩⟩⟩
theorem gl_reach {post : St1 → Prop} (u : St1) {x y : Int32} (h : ∀ y1 y2 y3 y4 y5 y6 y7, post (gs_pen u y1 y2 y3 y4 y5 y6 y7)) : wpX_reach post u x y := by
  refine ⟨fun _ => ?_, fun _ => ?_⟩ <;> refine ⟨fun _ => ?_, fun _ => ?_⟩ <;> refine ⟨fun _ => ?_, fun _ => ?_⟩ <;> refine ⟨fun _ => ?_, fun _ => ?_⟩ <;> exact h _ _ _ _ _ _ _
theorem gl_draw {post : St1 → Prop} (u : St1) {f : Nat} (hf : f < 78) (h : ∀ y1 y2 y3 y4 y5 y6 y7, post (gs_pen u y1 y2 y3 y4 y5 y6 y7)) : wpX_drawForm post u (nI f) := by
  have hi : vp_in (nI f) 78 := pk_in f 78 hf
  refine ⟨hi, hi, gl_tx (fun r1 => nm_e ⟨hi, hi, gl_ty (fun r2 => nm_e ⟨hi, hi, gl_tx (fun r3 => nm_e ⟨hi, hi, gl_ty (fun r4 => nm_e ?_)⟩)⟩)⟩)⟩
  refine gl_reach _ (fun _ _ _ _ _ _ _ => gl_reach _ (fun _ _ _ _ _ _ _ => ?_))
  refine ⟨hi, hi, gl_tx (fun r5 => nm_e ⟨hi, hi, gl_ty (fun r6 => nm_e ⟨hi, nm_e (h _ _ _ _ _ _ _)⟩)⟩)⟩
end
section
/-! learn: joinRuns is only walked through (printed by gen08.py) -/
theorem gj_226 {post : St1 → Prop} {x : Int32} {z0 : Int32} {b1 b2 b3 b4 b5 b6 b7 b8 b9 b10 b11 b12 b13 b14 b15 b16 b17 : Int32} {c1 c2 c3 c4 c5 c6 c7 c8 c9 c10 c11 c12 c13 c14 c15 c16 c17 c18 c19 c20 c21 c22 c23 c24 c25 : Nat → Int32} (hi : vp_in x 78) (h : ∀ y1 y2 y3 y4 y5, post (b1, b2, b3, b4, b5, b6, b7, b8, b9, b10, b11, y1, y2, y3, y4, y5, b17 + c5 x.toNatClampNeg, c1, c2, c3, c4, c5, c6, c7, c8, c9, c10, c11, c12, c13, c14, c15, c16, c17, c18, c19, c20, c21, c22, c23, c24, c25)) : wX_joinRuns_226 post x z0 b1 b2 b3 b4 b5 b6 b7 b8 b9 b10 b11 b12 b13 b14 b15 b16 b17 c1 c2 c3 c4 c5 c6 c7 c8 c9 c10 c11 c12 c13 c14 c15 c16 c17 c18 c19 c20 c21 c22 c23 c24 c25 :=
  ⟨hi, nm_e (h _ _ _ _ _)⟩
theorem gj_196 {post : St1 → Prop} {x : Int32} {z0 : Int32} {b1 b2 b3 b4 b5 b6 b7 b8 b9 b10 b11 b12 b13 b14 b15 b16 b17 : Int32} {c1 c2 c3 c4 c5 c6 c7 c8 c9 c10 c11 c12 c13 c14 c15 c16 c17 c18 c19 c20 c21 c22 c23 c24 c25 : Nat → Int32} (hi : vp_in x 78) (h : ∀ y1 y2 y3 y4 y5, post (b1, b2, b3, b4, b5, b6, b7, b8, b9, b10, b11, y1, y2, y3, y4, y5, b17 + c5 x.toNatClampNeg, c1, c2, c3, c4, c5, c6, c7, c8, c9, c10, c11, c12, c13, c14, c15, c16, c17, c18, c19, c20, c21, c22, c23, c24, c25)) : wX_joinRuns_196 post x z0 b1 b2 b3 b4 b5 b6 b7 b8 b9 b10 b11 b12 b13 b14 b15 b16 b17 c1 c2 c3 c4 c5 c6 c7 c8 c9 c10 c11 c12 c13 c14 c15 c16 c17 c18 c19 c20 c21 c22 c23 c24 c25 :=
  ⟨hi, fun _ => gj_226 hi h, fun _ => ⟨hi, gj_226 hi h⟩⟩
theorem gj_166 {post : St1 → Prop} {x : Int32} {x3 z0 : Int32} {b1 b2 b3 b4 b5 b6 b7 b8 b9 b10 b11 b12 b13 b14 b15 b16 b17 : Int32} {c1 c2 c3 c4 c5 c6 c7 c8 c9 c10 c11 c12 c13 c14 c15 c16 c17 c18 c19 c20 c21 c22 c23 c24 c25 : Nat → Int32} (hi : vp_in x 78) (h : ∀ y1 y2 y3 y4 y5, post (b1, b2, b3, b4, b5, b6, b7, b8, b9, b10, b11, y1, y2, y3, y4, y5, b17 + c5 x.toNatClampNeg, c1, c2, c3, c4, c5, c6, c7, c8, c9, c10, c11, c12, c13, c14, c15, c16, c17, c18, c19, c20, c21, c22, c23, c24, c25)) : wX_joinRuns_166 post x x3 z0 b1 b2 b3 b4 b5 b6 b7 b8 b9 b10 b11 b12 b13 b14 b15 b16 b17 c1 c2 c3 c4 c5 c6 c7 c8 c9 c10 c11 c12 c13 c14 c15 c16 c17 c18 c19 c20 c21 c22 c23 c24 c25 :=
  ⟨hi, fun _ _ => ⟨fun _ => gj_196 hi h, fun _ => gj_196 hi h⟩⟩
theorem gj_160 {post : St1 → Prop} {x : Int32} {x3 : Int32} {b1 b2 b3 b4 b5 b6 b7 b8 b9 b10 b11 b12 b13 b14 b15 b16 b17 : Int32} {c1 c2 c3 c4 c5 c6 c7 c8 c9 c10 c11 c12 c13 c14 c15 c16 c17 c18 c19 c20 c21 c22 c23 c24 c25 : Nat → Int32} (hi : vp_in x 78) (h : ∀ y1 y2 y3 y4 y5, post (b1, b2, b3, b4, b5, b6, b7, b8, b9, b10, b11, y1, y2, y3, y4, y5, b17 + c5 x.toNatClampNeg, c1, c2, c3, c4, c5, c6, c7, c8, c9, c10, c11, c12, c13, c14, c15, c16, c17, c18, c19, c20, c21, c22, c23, c24, c25)) : wX_joinRuns_160 post x x3 b1 b2 b3 b4 b5 b6 b7 b8 b9 b10 b11 b12 b13 b14 b15 b16 b17 c1 c2 c3 c4 c5 c6 c7 c8 c9 c10 c11 c12 c13 c14 c15 c16 c17 c18 c19 c20 c21 c22 c23 c24 c25 :=
  ⟨hi, gj_166 hi h⟩
theorem gj_134 {post : St1 → Prop} {x : Int32} {x2 x3 z0 : Int32} {b1 b2 b3 b4 b5 b6 b7 b8 b9 b10 b11 b12 b13 b14 b15 b16 b17 : Int32} {c1 c2 c3 c4 c5 c6 c7 c8 c9 c10 c11 c12 c13 c14 c15 c16 c17 c18 c19 c20 c21 c22 c23 c24 c25 : Nat → Int32} (hi : vp_in x 78) (h : ∀ y1 y2 y3 y4 y5, post (b1, b2, b3, b4, b5, b6, b7, b8, b9, b10, b11, y1, y2, y3, y4, y5, b17 + c5 x.toNatClampNeg, c1, c2, c3, c4, c5, c6, c7, c8, c9, c10, c11, c12, c13, c14, c15, c16, c17, c18, c19, c20, c21, c22, c23, c24, c25)) : wX_joinRuns_134 post x x2 x3 z0 b1 b2 b3 b4 b5 b6 b7 b8 b9 b10 b11 b12 b13 b14 b15 b16 b17 c1 c2 c3 c4 c5 c6 c7 c8 c9 c10 c11 c12 c13 c14 c15 c16 c17 c18 c19 c20 c21 c22 c23 c24 c25 :=
  ⟨fun _ => gj_160 hi h, fun _ => ⟨fun _ => gj_160 hi h, fun _ => ⟨hi, gj_166 hi h⟩⟩⟩
theorem gj_114 {post : St1 → Prop} {x : Int32} {x2 x3 : Int32} {b1 b2 b3 b4 b5 b6 b7 b8 b9 b10 b11 b12 b13 b14 b15 b16 b17 : Int32} {c1 c2 c3 c4 c5 c6 c7 c8 c9 c10 c11 c12 c13 c14 c15 c16 c17 c18 c19 c20 c21 c22 c23 c24 c25 : Nat → Int32} (hi : vp_in x 78) (h : ∀ y1 y2 y3 y4 y5, post (b1, b2, b3, b4, b5, b6, b7, b8, b9, b10, b11, y1, y2, y3, y4, y5, b17 + c5 x.toNatClampNeg, c1, c2, c3, c4, c5, c6, c7, c8, c9, c10, c11, c12, c13, c14, c15, c16, c17, c18, c19, c20, c21, c22, c23, c24, c25)) : wX_joinRuns_114 post x x2 x3 b1 b2 b3 b4 b5 b6 b7 b8 b9 b10 b11 b12 b13 b14 b15 b16 b17 c1 c2 c3 c4 c5 c6 c7 c8 c9 c10 c11 c12 c13 c14 c15 c16 c17 c18 c19 c20 c21 c22 c23 c24 c25 :=
  ⟨hi, hi, fun _ => gj_134 hi h, fun _ => gj_134 hi h⟩
theorem gj_53 {post : St1 → Prop} {x : Int32} {x2 z0 : Int32} {b1 b2 b3 b4 b5 b6 b7 b8 b9 b10 b11 b12 b13 b14 b15 b16 b17 : Int32} {c1 c2 c3 c4 c5 c6 c7 c8 c9 c10 c11 c12 c13 c14 c15 c16 c17 c18 c19 c20 c21 c22 c23 c24 c25 : Nat → Int32} (hi : vp_in x 78) (h : ∀ y1 y2 y3 y4 y5, post (b1, b2, b3, b4, b5, b6, b7, b8, b9, b10, b11, y1, y2, y3, y4, y5, b17 + c5 x.toNatClampNeg, c1, c2, c3, c4, c5, c6, c7, c8, c9, c10, c11, c12, c13, c14, c15, c16, c17, c18, c19, c20, c21, c22, c23, c24, c25)) : wX_joinRuns_53 post x x2 z0 b1 b2 b3 b4 b5 b6 b7 b8 b9 b10 b11 b12 b13 b14 b15 b16 b17 c1 c2 c3 c4 c5 c6 c7 c8 c9 c10 c11 c12 c13 c14 c15 c16 c17 c18 c19 c20 c21 c22 c23 c24 c25 :=
  ⟨fun _ => ⟨hi, fun _ _ => ⟨hi, fun _ _ => gj_114 hi h⟩⟩, fun _ => ⟨fun _ => ⟨fun _ => gj_114 hi h, fun _ => ⟨hi, fun _ _ => gj_114 hi h⟩⟩, fun _ => gj_114 hi h⟩⟩
theorem gj_28 {post : St1 → Prop} {x : Int32} {z0 : Int32} {b1 b2 b3 b4 b5 b6 b7 b8 b9 b10 b11 b12 b13 b14 b15 b16 b17 : Int32} {c1 c2 c3 c4 c5 c6 c7 c8 c9 c10 c11 c12 c13 c14 c15 c16 c17 c18 c19 c20 c21 c22 c23 c24 c25 : Nat → Int32} (hi : vp_in x 78) (h : ∀ y1 y2 y3 y4 y5, post (b1, b2, b3, b4, b5, b6, b7, b8, b9, b10, b11, y1, y2, y3, y4, y5, b17 + c5 x.toNatClampNeg, c1, c2, c3, c4, c5, c6, c7, c8, c9, c10, c11, c12, c13, c14, c15, c16, c17, c18, c19, c20, c21, c22, c23, c24, c25)) : wX_joinRuns_28 post x z0 b1 b2 b3 b4 b5 b6 b7 b8 b9 b10 b11 b12 b13 b14 b15 b16 b17 c1 c2 c3 c4 c5 c6 c7 c8 c9 c10 c11 c12 c13 c14 c15 c16 c17 c18 c19 c20 c21 c22 c23 c24 c25 :=
  ⟨fun _ => ⟨hi, gj_53 hi h⟩, fun _ => ⟨hi, gj_53 hi h⟩⟩
theorem gj_all {post : St1 → Prop} {x : Int32} {b1 b2 b3 b4 b5 b6 b7 b8 b9 b10 b11 b12 b13 b14 b15 b16 b17 : Int32} {c1 c2 c3 c4 c5 c6 c7 c8 c9 c10 c11 c12 c13 c14 c15 c16 c17 c18 c19 c20 c21 c22 c23 c24 c25 : Nat → Int32} (hi : vp_in x 78) (h : ∀ y1 y2 y3 y4 y5, post (b1, b2, b3, b4, b5, b6, b7, b8, b9, b10, b11, y1, y2, y3, y4, y5, b17 + c5 x.toNatClampNeg, c1, c2, c3, c4, c5, c6, c7, c8, c9, c10, c11, c12, c13, c14, c15, c16, c17, c18, c19, c20, c21, c22, c23, c24, c25)) : wpX_joinRuns post (b1, b2, b3, b4, b5, b6, b7, b8, b9, b10, b11, b12, b13, b14, b15, b16, b17, c1, c2, c3, c4, c5, c6, c7, c8, c9, c10, c11, c12, c13, c14, c15, c16, c17, c18, c19, c20, c21, c22, c23, c24, c25) x := by
  refine ⟨hi, fun hz => ?_, fun _ => ⟨hi, fun _ => gj_28 hi h, fun _ => gj_28 hi h⟩⟩
  have hz' : c5 x.toNatClampNeg = 0 := hz
  rw [hz', Int32.add_zero] at h
  exact h b12 b13 b14 b15 b16
theorem gl_join {post : St1 → Prop} (u : St1) {f : Nat} (hf : f < 78) (h : ∀ y1 y2 y3 y4 y5, post (gs_run u y1 y2 y3 y4 y5 (gw_to u + gw_a5 u f))) : wpX_joinRuns post u (nI f) := by
  have hi : vp_in (nI f) 78 := pk_in f 78 hf
  have ec : (nI f).toNatClampNeg = f := nI_clamp (by omega)
  rw [← ec] at h
  obtain ⟨b1, b2, b3, b4, b5, b6, b7, b8, b9, b10, b11, b12, b13, b14, b15, b16, b17, c1, c2, c3, c4, c5, c6, c7, c8, c9, c10, c11, c12, c13, c14, c15, c16, c17, c18, c19, c20, c21, c22, c23, c24, c25⟩ := u
  exact gj_all hi h
end
section
theorem gl_addN {post : St1 → Prop} (u : St1) {f g : Nat} (hf : f < 78) (hg : g < 78) (hne : g ≠ f)
    (h : ∀ x, (∀ j, (j < 6 * f ∨ 6 * f + 6 ≤ j) → x j = gw_a6 u j) → (∀ d, d < 6 → x (6 * f + d) = gw_a6 u (6 * f + d) + gw_a6 u (6 * g + d)) → post (gs_a6 u x)) : wpX_addNumbers post u (nI f) (nI g) := by
  refine pk_loop (fun n i s => lo_addN post (nI f) (nI g) n (nI i) (gs_a6 u s)) (fun i s => (∀ j, (j < 6 * f ∨ 6 * f + 6 ≤ j) → s j = gw_a6 u j) ∧ (∀ d, d < i → s (6 * f + d) = gw_a6 u (6 * f + d) + gw_a6 u (6 * g + d)) ∧ (∀ d, i ≤ d → d < 6 → s (6 * f + d) = gw_a6 u (6 * f + d))) 6 0 (gw_a6 u) (by omega) ⟨fun _ _ => rfl, fun d hd => absurd hd (by omega), fun _ _ _ => rfl⟩ ?_ ?_
  · intro n s hs
    exact pk_le 6 6 (fun _ => h s hs.1 hs.2.1) (fun z => absurd z (by omega))
  · intro n i s hi hs hw
    obtain ⟨h1, h2, h3⟩ := hs
    have e1 : 6 * nI f + nI i = nI (6 * f + i) := gn_lin 6 f i
    have e2 : 6 * nI g + nI i = nI (6 * g + i) := gn_lin 6 g i
    refine pk_le 6 i (fun z => absurd z (by omega)) (fun _ => ?_)
    refine ⟨by rw [e1]; exact pk_in (6 * f + i) 468 (by omega), by rw [e2]; exact pk_in (6 * g + i) 468 (by omega), by rw [e1]; exact pk_in (6 * f + i) 468 (by omega), nm_r (e' := upd s (6 * f + i) (gw_a6 u (6 * f + i) + gw_a6 u (6 * g + i))) ?_ (nm_r (nI_1 i) (hw (upd s (6 * f + i) (gw_a6 u (6 * f + i) + gw_a6 u (6 * g + i))) ⟨fun j hj => ?_, fun d hd => ?_, fun d hd hd6 => ?_⟩))⟩
    · rw [e1, e2, nI_clamp (by omega), nI_clamp (by omega)]
      show upd s (6 * f + i) (s (6 * f + i) + s (6 * g + i)) = _
      rw [h3 i (Nat.le_refl i) hi, h1 (6 * g + i) (by omega)]
    · rw [pk_un (by omega)]
      exact h1 j hj
    · by_cases e : d = i
      · rw [e, pk_us]
      · rw [pk_un (by omega)]
        exact h2 d (by omega)
    · rw [pk_un (by omega)]
      exact h3 d (by omega) hd6
/-! one form's entries are laid, all else stands -/
def gw_ent (R : Nat → List Nat) (u : St1) (g : Nat) : Prop := gw_a5 u g = nI (gx_fx R g).length ∧ ∀ d, d < 6 → gw_a6 u (6 * g + d) = nI ((gx_fx R g).count d)
def gw_lay (R : Nat → List Nat) (f : Nat) (u v : St1) : Prop := gw_core v = gw_core u ∧ (∀ j, j ≠ f → gw_a5 v j = gw_a5 u j) ∧ (∀ j, (j < 6 * f ∨ 6 * f + 6 ≤ j) → gw_a6 v j = gw_a6 u j) ∧ gw_ent R v f
theorem gw_lay_ent {R : Nat → List Nat} {f g : Nat} {u v : St1} (h : gw_lay R f u v) (he : g ≠ f → gw_ent R u g) : gw_ent R v g := by
  by_cases e : g = f
  · rw [e]
    exact h.2.2.2
  · have h1 := he e
    refine ⟨by rw [h.2.1 g e]; exact h1.1, fun d hd => ?_⟩
    rw [h.2.2.1 _ (by omega)]
    exact h1.2 d hd
theorem gl_let110 {post : St1 → Prop} (v : St1) {x1 z0 : Int32} {f : Nat} (hf : f < 78) (h : ∀ w, gw_core w = gw_core v → gw_a5 w = gw_a5 v → gw_a6 w = gw_a6 v → post w) : lo_let110 post x1 (nI f) z0 (nI f) v := by
  have hi : vp_in (nI f) 78 := pk_in f 78 hf
  refine ⟨hi, nm_e ⟨hi, nm_e ⟨hi, hi, nm_e ⟨hi, nm_e ⟨hi, nm_e ⟨hi, nm_e ⟨hi, nm_e ⟨hi, nm_e ⟨hi, nm_e ⟨hi, nm_e ?_⟩⟩⟩⟩⟩⟩⟩⟩⟩⟩
  exact h _ rfl rfl rfl
theorem gl_let68 {post : St1 → Prop} (v : St1) {z0 : Int32} {c f : Nat} (hc : c < 6) (hf : f < 78) (h : ∀ w, gw_core w = gw_core v → gw_a5 w = gw_a5 v → gw_a6 w = gw_a6 v → post w) : lo_let68 post (nI c) (nI f) z0 (nI f) v := by
  have hi : vp_in (nI f) 78 := pk_in f 78 hf
  have hc' : vp_in (nI c) 6 := pk_in c 6 hc
  have k : ∀ (x y : Nat → Int32) (z : Int32), lo_let110 post (nI c) (nI f) z (nI f) (gs_78 v x y) := fun x y z => gl_let110 (gs_78 v x y) hf (fun w e1 e2 e3 => h w e1 e2 e3)
  exact ⟨hi, fun x _ => ⟨hi, fun y _ => ⟨hc', fun _ => k x y 1, fun _ => ⟨hc', fun _ => k x y 3, fun _ => k x y 0⟩⟩⟩⟩
theorem gl_fill {s a q : Nat → Int32} {b i : Nat} {x : Int32} (h1 : ∀ j, (j < b ∨ b + 6 ≤ j) → s j = a j) (h2 : ∀ d, d < i → s (b + d) = q d) (hi : i < 6) (hx : x = q i) : (∀ j, (j < b ∨ b + 6 ≤ j) → upd s (b + i) x j = a j) ∧ ∀ d, d < i + 1 → upd s (b + i) x (b + d) = q d := by
  refine ⟨fun j hj => ?_, fun d hd => ?_⟩
  · rw [pk_un (by omega)]
    exact h1 j hj
  · by_cases e : d = i
    · rw [e, pk_us, hx]
    · rw [pk_un (by omega)]
      exact h2 d (by omega)
end
section
theorem gl_letter {post : St1 → Prop} {R : Nat → List Nat} (u : St1) {c : Nat} (hc : c < 6) (h : ∀ v, gw_lay R (13 * c) u v → post v) : wpX_layLetter post u (nI c) := by
  have hfx : gx_fx R (13 * c) = [c] := by
    rw [gx_fx_0 (by omega), show 13 * c / 13 = c by omega]
  show wpX_form (fun r => vp_in r 78 ∧ ∀ x, x = upd (gw_a5 u) r.toNatClampNeg 1 → ∃ fu, lo_letter15 post (nI c) r fu 0 (gs_56 u x (gw_a6 u))) () (nI c) 0
  refine gp_form c 0 rfl rfl ⟨pk_in (13 * c + 0) 78 (by omega), nm_r (e' := upd (gw_a5 u) (13 * c) (nI 1)) (by rw [nI_clamp (by omega)]; rfl) ?_⟩
  refine pk_loop (fun n i s => lo_letter15 post (nI c) (nI (13 * c + 0)) n (nI i) (gs_56 u (upd (gw_a5 u) (13 * c) (nI 1)) s)) (fun i s => (∀ j, (j < 6 * (13 * c) ∨ 6 * (13 * c) + 6 ≤ j) → s j = gw_a6 u j) ∧ ∀ d, d < i → s (6 * (13 * c) + d) = nI ([c].count d)) 6 0 (gw_a6 u) (by omega) ⟨fun _ _ => rfl, fun d hd => absurd hd (by omega)⟩ ?_ ?_
  · intro n s hs
    refine pk_le 6 6 (fun _ => ⟨pk_in c 6 hc, ?_⟩) (fun z => absurd z (by omega))
    have k : ∀ z, lo_let68 post (nI c) (nI (13 * c + 0)) z (nI (13 * c + 0)) (gs_56 u (upd (gw_a5 u) (13 * c) (nI 1)) s) := fun z => gl_let68 _ hc (by omega) (fun w e1 e2 e3 => h w ⟨e1, fun j hj => by rw [e2]; exact pk_un hj, fun j hj => by rw [e3]; exact hs.1 j hj, by rw [e2, hfx]; exact pk_us, fun d hd => by rw [e3, hfx]; exact hs.2 d hd⟩)
    exact ⟨fun _ => k _, fun _ => k _⟩
  · intro n i s hi hs hw
    have e1 : 6 * nI (13 * c + 0) + nI i = nI (6 * (13 * c) + i) := gn_lin 6 (13 * c) i
    refine pk_le 6 i (fun z => absurd z (by omega)) (fun _ => pk_eq i c (fun z => ?_) (fun z => ?_))
    · refine ⟨by rw [e1]; exact pk_in (6 * (13 * c) + i) 468 (by omega), nm_r (e' := upd s (6 * (13 * c) + i) (nI 1)) (by rw [e1, nI_clamp (by omega)]; rfl) (nm_r (nI_1 i) (hw (upd s _ _) (gl_fill hs.1 hs.2 hi ?_)))⟩
      rw [z, List.count_singleton_self]
    · refine ⟨by rw [e1]; exact pk_in (6 * (13 * c) + i) 468 (by omega), nm_r (e' := upd s (6 * (13 * c) + i) (nI 0)) (by rw [e1, nI_clamp (by omega)]; rfl) (nm_r (nI_1 i) (hw (upd s _ _) (gl_fill hs.1 hs.2 hi ?_)))⟩
      rw [List.count_singleton, if_neg (by simpa using fun e => z (Eq.symm e))]
end
section
def gx_pre (R : Nat → List Nat) (c l i : Nat) : List Nat := ((R c).take i).flatMap (gx_ex R l)
theorem gx_pre_succ {R : Nat → List Nat} {c l i : Nat} (hl : l < 13) (hi : i < (R c).length) : gx_pre R c l (i + 1) = gx_pre R c l i ++ gx_fx R (13 * (R c).getD i 0 + l) := by
  unfold gx_pre
  rw [gk_take hi, List.flatMap_append, List.flatMap_singleton, gx_fx_form hl]
theorem gx_pre_all {R : Nat → List Nat} {c l : Nat} (hl : l + 1 < 13) : gx_pre R c l (R c).length = gx_fx R (13 * c + (l + 1)) := by
  unfold gx_pre
  rw [List.take_length, gx_fx_form hl]
  rfl
theorem gl_form {post : St1 → Prop} {R : Nat → List Nat} (u : St1) {c l : Nat} (hc : c < 6) (hl : l + 1 < 13) (hR : gx_okR R) (hru : gw_rul R (gw_a1 u) (gw_a2 u)) (hlow : ∀ g, g < 78 → g % 13 = l → gw_ent R u g) (h : ∀ v, gw_lay R (13 * c + (l + 1)) u v → post v) : wpX_layForm post u (nI c) (nI (l + 1)) := by
  have hR4 := (hR c hc).1
  have hi : vp_in (nI (13 * c + (l + 1))) 78 := pk_in (13 * c + (l + 1)) 78 (by omega)
  show wpX_form (fun r => ∃ fu, lo_form17 post (nI c) (nI (l + 1)) r fu 0 (gs_run (gs_pen u 0 0 0 0 0 0 0) (-1) 0 (-1) 0 0 0)) () (nI c) (nI (l + 1))
  refine gp_form c (l + 1) rfl rfl ?_
  refine pk_loop (fun n i s => lo_form17 post (nI c) (nI (l + 1)) (nI (13 * c + (l + 1))) n (nI i) (gs_a6 (gs_run (gs_pen u 0 0 0 0 0 0 0) (-1) 0 (-1) 0 0 0) s)) (fun i s => (∀ j, (j < 6 * (13 * c + (l + 1)) ∨ 6 * (13 * c + (l + 1)) + 6 ≤ j) → s j = gw_a6 u j) ∧ ∀ d, d < i → s (6 * (13 * c + (l + 1)) + d) = nI 0) 6 0 (gw_a6 u) (by omega) ⟨fun _ _ => rfl, fun d hd => absurd hd (by omega)⟩ ?_ ?_
  rotate_left
  · intro n i s hi6 hs hw
    have e1 : 6 * nI (13 * c + (l + 1)) + nI i = nI (6 * (13 * c + (l + 1)) + i) := gn_lin 6 (13 * c + (l + 1)) i
    refine pk_le 6 i (fun z => absurd z (by omega)) (fun _ => ⟨by rw [e1]; exact pk_in (6 * (13 * c + (l + 1)) + i) 468 (by omega), nm_r (e' := upd s (6 * (13 * c + (l + 1)) + i) (nI 0)) (by rw [e1, nI_clamp (by omega)]; rfl) (nm_r (nI_1 i) (hw _ (gl_fill (q := fun _ => nI 0) hs.1 hs.2 hi6 rfl)))⟩)
  intro n s hs
  refine pk_le 6 6 (fun _ => ?_) (fun z => absurd z (by omega))
  refine pk_loop (fun n i v => lo_form46 post (nI c) (nI (l + 1)) (nI (13 * c + (l + 1))) n (nI i) v) (fun i v => gw_core v = gw_core u ∧ gw_a5 v = gw_a5 u ∧ gw_to v = nI (gx_pre R c l i).length ∧ (∀ j, (j < 6 * (13 * c + (l + 1)) ∨ 6 * (13 * c + (l + 1)) + 6 ≤ j) → gw_a6 v j = gw_a6 u j) ∧ ∀ d, d < 6 → gw_a6 v (6 * (13 * c + (l + 1)) + d) = nI ((gx_pre R c l i).count d)) (R c).length 0 (gs_a6 (gs_run (gs_pen u 0 0 0 0 0 0 0) (-1) 0 (-1) 0 0 0) s) (by omega) ⟨rfl, rfl, rfl, hs.1, fun d hd => hs.2 d hd⟩ ?_ ?_
  · intro n v hv
    obtain ⟨k1, k2, k3, k4, k5⟩ := hv
    rw [gx_pre_all hl] at k3 k5
    have ea : gw_a1 v (nI c).toNatClampNeg = nI (R c).length := by
      rw [nI_clamp (by omega), show gw_a1 v = gw_a1 u from congrArg (fun k => k.2.2.2.1) k1]
      exact (hru c hc).1
    refine ⟨pk_in c 6 hc, pk_le (R c).length (R c).length (fun _ => ?_) (fun z => absurd z (by omega)) ea rfl (by omega) (by omega)⟩
    refine ⟨hi, nm_r (e' := upd (gw_a5 u) (13 * c + (l + 1)) (nI (gx_fx R (13 * c + (l + 1))).length)) ?_ ⟨hi, nm_e ⟨hi, nm_e ⟨hi, nm_e ⟨hi, nm_e ⟨hi, nm_e ⟨hi, nm_e ⟨hi, nm_e ⟨hi, nm_e ⟨hi, nm_e ⟨hi, nm_e ⟨hi, nm_e ⟨hi, nm_e ?_⟩⟩⟩⟩⟩⟩⟩⟩⟩⟩⟩⟩⟩
    · rw [nI_clamp (by omega)]
      show upd (gw_a5 v) _ (gw_to v) = _
      rw [k2, k3]
    · exact h _ ⟨k1, fun j hj => pk_un hj, k4, pk_us, k5⟩
  · intro n i v hir hv hw
    obtain ⟨k1, k2, k3, k4, k5⟩ := hv
    have ea : gw_a1 v (nI c).toNatClampNeg = nI (R c).length := by
      rw [nI_clamp (by omega), show gw_a1 v = gw_a1 u from congrArg (fun k => k.2.2.2.1) k1]
      exact (hru c hc).1
    have e4 : 4 * nI c + nI i = nI (4 * c + i) := gn_lin 4 c i
    have h6 : (R c).getD i 0 < 6 := (hR c hc).2 _ (gw_getD_mem hir)
    have hg : 13 * (R c).getD i 0 + l < 78 := by omega
    have hent := hlow (13 * (R c).getD i 0 + l) hg (by omega)
    refine ⟨pk_in c 6 hc, pk_le (R c).length i (fun z => absurd z (by omega)) (fun _ => ⟨by rw [e4]; exact pk_in (4 * c + i) 24 (by omega), gp_form ((R c).getD i 0) l ?_ (nI_pred l) ?_⟩) ea rfl (by omega) (by omega)⟩
    · rw [e4, nI_clamp (by omega)]
      show gw_a2 v (4 * c + i) = _
      rw [show gw_a2 v = gw_a2 u from congrArg (fun k => k.2.2.2.2.1) k1]
      exact (hru c hc).2 i hir
    · show wpX_drawForm (fun w => wpX_joinRuns (fun w' => wpX_addNumbers (fun w'' => ∀ x, x = nI i + 1 → lo_form46 post (nI c) (nI (l + 1)) (nI (13 * c + (l + 1))) n x w'') w' (nI (13 * c + (l + 1))) (nI (13 * (R c).getD i 0 + l))) w (nI (13 * (R c).getD i 0 + l))) v (nI (13 * (R c).getD i 0 + l))
      refine gl_draw v hg (fun y1 y2 y3 y4 y5 y6 y7 => gl_join (gs_pen v y1 y2 y3 y4 y5 y6 y7) hg (fun z1 z2 z3 z4 z5 => gl_addN (gs_run (gs_pen v y1 y2 y3 y4 y5 y6 y7) z1 z2 z3 z4 z5 (gw_to v + gw_a5 v (13 * (R c).getD i 0 + l))) (show 13 * c + (l + 1) < 78 by omega) hg (by omega) (fun x hx1 hx2 => nm_r (nI_1 i) (hw (gs_a6 (gs_run (gs_pen v y1 y2 y3 y4 y5 y6 y7) z1 z2 z3 z4 z5 (gw_to v + gw_a5 v (13 * (R c).getD i 0 + l))) x) ⟨k1, k2, ?_, fun j hj => (hx1 j hj).trans (k4 j hj), fun d hd => (hx2 d hd).trans ?_⟩))))
      · show gw_to v + gw_a5 v (13 * (R c).getD i 0 + l) = _
        rw [k3, k2, hent.1, nI_add, gx_pre_succ (by omega) hir, List.length_append]
      · show gw_a6 v _ + gw_a6 v _ = _
        rw [k5 d hd, k4 _ (by omega), hent.2 d hd, nI_add, gx_pre_succ (by omega) hir, List.count_append]
end
section
theorem gl_learn {post : St1 → Prop} {R : Nat → List Nat} {F : List Nat} (u : St1) (hI : gw_I R F u) (h : ∀ v, gw_J R F v → post v) : wpX_learn post u := by
  have hb := hI.1
  refine ⟨fun hz => ?_, fun hz => h u ⟨hb, ?_⟩⟩
  rotate_left
  · rcases hI.2 with e | e
    · exact absurd e hz
    · exact e
  refine pk_loop (fun n l v => lo_learn15 post n (nI l) v) (fun l v => gw_base R F v ∧ ∀ g, g < 78 → g % 13 < l → gw_ent R v g) 13 0 (gs_kn u 1) (by omega) ⟨hb, fun g _ hg => absurd hg (by omega)⟩ ?_ ?_
  · intro n v hv
    exact pk_le 13 13 (fun _ => h v ⟨hv.1, fun f hf => (hv.2 f hf (by omega)).1, fun f d hf hd => (hv.2 f hf (by omega)).2 d hd⟩) (fun z => absurd z (by omega))
  · intro n l v hl hv hw
    refine pk_le 13 l (fun z => absurd z (by omega)) (fun _ => ?_)
    refine pk_loop (fun m c w => lo_learn23 post (wX_learn_15 post n) (nI l) m (nI c) w) (fun c w => gw_base R F w ∧ ∀ g, g < 78 → (g % 13 < l ∨ (g % 13 = l ∧ g / 13 < c)) → gw_ent R w g) 6 0 v (by omega) ⟨hv.1, fun g hg hgl => hv.2 g hg (by omega)⟩ ?_ ?_
    · intro m w hw'
      exact pk_le 6 6 (fun _ => nm_r (nI_1 l) (hw w ⟨hw'.1, fun g hg hgl => hw'.2 g hg (by omega)⟩)) (fun z => absurd z (by omega))
    · intro m c w hc hw' hw2
      refine pk_le 6 c (fun z => absurd z (by omega)) (fun _ => pk_eq l 0 (fun z => ?_) (fun z => ?_))
      · refine gl_letter (R := R) w hc (fun x hx => nm_r (nI_1 c) (hw2 x ⟨gw_base_core hx.1 hw'.1, fun g hg hgl => gw_lay_ent hx (fun hne => hw'.2 g hg (by omega))⟩))
      · obtain ⟨k, rfl⟩ : ∃ k, l = k + 1 := ⟨l - 1, by omega⟩
        refine gl_form (R := R) w hc hl hw'.1.1 hw'.1.2.2.1 (fun g hg hgl => hw'.2 g hg (by omega)) (fun x hx => nm_r (nI_1 c) (hw2 x ⟨gw_base_core hx.1 hw'.1, fun g hg hgl => gw_lay_ent hx (fun hne => hw'.2 g hg (by omega))⟩))
/-! lengths -/
theorem gl_len {post : Int32 → Prop} {R : Nat → List Nat} {F : List Nat} (u : St1) {n : Nat} (hn : n < 13) (hF : gx_okF F) (hf : gw_fst F (gw_fs u) (gw_a3 u)) (h5 : gw_siz R (gw_a5 u)) (h : post (nI (gx_W R F n).length)) : wpX_lengthOf post u (nI n) := by
  have hF3 := hF.2.1
  refine pk_loop (σ := Unit) (fun m i _ => lo_len4 post (nI n) m (nI ((F.take i).flatMap (gx_ex R n)).length) (nI i) u) (fun _ _ => True) F.length 0 () (by omega) trivial ?_ ?_
  · intro m _ _
    refine pk_le F.length F.length (fun _ => ?_) (fun z => absurd z (by omega)) hf.1 rfl
    rw [List.take_length]
    exact h
  · intro m i _ hi _ hw
    have h6 : F.getD i 0 < 6 := hF.2.2 _ (gw_getD_mem hi)
    refine pk_le F.length i (fun z => absurd z (by omega)) (fun _ => ⟨pk_in i 8 (by omega), gp_form (F.getD i 0) n ?_ rfl ⟨pk_in (13 * F.getD i 0 + n) 78 (by omega), nm_r (e' := nI ((F.take (i + 1)).flatMap (gx_ex R n)).length) ?_ (nm_r (nI_1 i) (hw () trivial))⟩⟩) hf.1 rfl
    · rw [nI_clamp (by omega)]
      exact hf.2 i hi
    · rw [nI_clamp (by omega)]
      show nI ((F.take i).flatMap (gx_ex R n)).length + gw_a5 u (13 * F.getD i 0 + n) = _
      rw [h5 _ (by omega), gx_fx_form hn, nI_add, gk_take hi, List.flatMap_append, List.flatMap_singleton, List.length_append]
def gx_fit (R : Nat → List Nat) (F : List Nat) (n : Nat) : Prop := ∀ m, m ≤ n → (gx_W R F m).length ≤ 3000
theorem gl_ref {post : Int32 → St1 → Prop} {R : Nat → List Nat} {F : List Nat} (u : St1) {n : Nat} (hn : n < 13) (hI : gw_I R F u) (h0 : gx_fit R F n → ∀ v, gw_J R F v → post (nI 0) v) (h2 : ¬ gx_fit R F n → ∀ v, gw_J R F v → post (-2) v) : wpX_refusal post u (nI n) := by
  show (nI n < 0 → post (-1) u) ∧ (¬ nI n < 0 → ((nI n < 13 → wpX_learn (fun w => ∃ fu, lo_ref18 post (nI n) fu (nI 0) w) u) ∧ (¬ nI n < 13 → post (-1) u)))
  refine br_f (nI_pos (by omega)) (pk_lt n 13 (fun _ => ?_) (fun z => absurd z (by omega)))
  refine gl_learn u hI (fun v hv => ?_)
  refine pk_loop (σ := Unit) (fun m i _ => lo_ref18 post (nI n) m (nI i) v) (fun i _ => ∀ k, k < i → (gx_W R F k).length ≤ 3000) (n + 1) 0 () (by omega) (fun k hk => absurd hk (by omega)) ?_ ?_
  · intro m _ hfit
    exact pk_lt n (n + 1) (fun _ => h0 (fun k hk => hfit k (by omega)) v hv) (fun z => absurd z (by omega))
  · intro m i _ hi hfit hw
    have hlen := gx_W_len hv.1.1 hv.1.2.1 (n := i) (by omega)
    refine pk_lt n i (fun z => absurd z (by omega)) (fun _ => gl_len (R := R) (F := F) v (by omega) hv.1.2.1 hv.1.2.2.2.1 hv.2.1 ?_)
    refine pk_le (gx_W R F i).length 3000 (fun z => nm_r (nI_1 i) (hw () (fun k hk => ?_))) (fun z => h2 (fun hf => ?_) v hv)
    · by_cases e : k = i
      · rw [e]; exact z
      · exact hfit k (by omega)
    · have := hf i (by omega)
      omega
theorem gl_length {post : Int32 → St1 → Prop} {R : Nat → List Nat} {F : List Nat} (u : St1) {n : Nat} (hn : n < 13) (hI : gw_I R F u) (h0 : gx_fit R F n → ∀ v, gw_J R F v → post (nI (gx_W R F n).length) v) (h2 : ¬ gx_fit R F n → ∀ v, gw_J R F v → post (-2) v) : wpX_length post u (nI n) := by
  show wpX_refusal (fun r v => (r = 0 → wpX_lengthOf (fun q => post q v) v (nI n)) ∧ (¬ r = 0 → post r v)) u (nI n)
  refine gl_ref (R := R) (F := F) u hn hI (fun hf v hv => ?_) (fun hf v hv => ?_)
  · exact br_t rfl (gl_len (R := R) (F := F) v hn hv.1.2.1 hv.1.2.2.2.1 hv.2.1 (h0 hf v hv))
  · exact br_f (by decide) (h2 hf v hv)
theorem gl_length13 {post : Int32 → St1 → Prop} (u : St1) (h : post (-1) u) : wpX_length post u (nI 13) := by
  show wpX_refusal (fun r v => (r = 0 → wpX_lengthOf (fun q => post q v) v (nI 13)) ∧ (¬ r = 0 → post r v)) u (nI 13)
  exact br_f (by decide) (br_f (by decide) (br_f (by decide) h))
end
section
/-! words and their numbers: sizeOf, word, rule, begin -/
theorem ga_rem7 {a : Nat} (h : a < 2 ^ 31) : nI a - nI a / 7 * 7 = nI (a % 7) := pk_rem (d := 7) h (by decide) (by decide)
theorem ga_div7 {a : Nat} (h : a < 2 ^ 31) : nI a / 7 = nI (a / 7) := pk_div (d := 7) h (by decide) (by decide)
theorem ga_code8 {P : List Nat} (h : ∀ d, d ∈ P → d < 6) (hl : P.length ≤ 8) : gw_code P < 2 ^ 31 := by
  have h1 := gw_code_lt h
  have h2 : 7 ^ P.length ≤ 7 ^ 8 := Nat.pow_le_pow_right (n := 7) (by decide) hl
  have h3 : 7 ^ 8 < 2 ^ 31 := by decide
  omega
theorem ga_sizeL {post : Int32 → Prop} {m : Nat} (hm : m ≤ 8) : ∀ (ds : List Nat) (i : Nat), (∀ d, d ∈ ds → d < 6) → ds.length + i ≤ m → post (nI (ds.length + i)) → wX_sizeOf_4 post (nI m) (ds.length + 1) (nI (gw_code ds)) (nI i)
  | [], i, _, hi, h => by
    have hi' : i ≤ m := by simpa using hi
    have h' : post (nI i) := by
      rw [List.length_nil, Nat.zero_add] at h
      exact h
    exact br_t (show nI 0 ≤ 0 by decide) (br_t (show nI 0 = 0 by rfl) (pk_lt m i (fun z => absurd z (by omega)) (fun _ => h')))
  | d :: ds, i, hd, hi, h => by
    have hd6 := hd d (by simp)
    have hi' : ds.length + 1 + i ≤ m := hi
    have hc := ga_code8 hd (by simp only [List.length_cons]; omega)
    have hcode : gw_code (d :: ds) = d + 1 + 7 * gw_code ds := rfl
    refine br_f (nI_nle (by omega) hc) (pk_lt m i (fun z => absurd z (by omega)) (fun _ => ⟨by decide, br_f ?_ ⟨by decide, nm_r (e' := nI (gw_code ds)) ?_ (nm_r (nI_1 i) (ga_sizeL hm ds (i + 1) (fun e he => hd e (by simp [he])) (by omega) ?_))⟩⟩))
    · rw [ga_rem7 hc]
      exact nI_ne0 (by omega) (by omega)
    · rw [ga_div7 hc, show gw_code (d :: ds) / 7 = gw_code ds by omega]
    · rw [show ds.length + (i + 1) = (d :: ds).length + i by simp only [List.length_cons]; omega]
      exact h
theorem ga_size {post : Int32 → Prop} {m : Nat} {ds : List Nat} (hm : m ≤ 8) (hd : ∀ d, d ∈ ds → d < 6) (hl : ds.length ≤ m) (h : post (nI ds.length)) : wpX_sizeOf post () (nI (gw_code ds)) (nI m) :=
  ⟨ds.length + 1, ga_sizeL hm ds 0 hd (by omega) h⟩
theorem ga_isP {post : Int32 → Prop} {P : List Nat} (hP : gw_okP P) (h : post (nI 1)) : wpX_isPattern post () (nI (gw_code P)) := by
  have h1 := hP.1
  have h2 := hP.2.1
  exact ga_size (m := 4) (by omega) hP.2.2 h2 (pk_lt P.length 1 (fun z => absurd z (by omega)) (fun _ => h))
theorem ga_word {post : Int32 → Prop} {x : Int32} {s : Nat} (hs : s ≤ 8) (h : ∀ ds : List Nat, ds.length = s → (∀ d, d ∈ ds → d < 6) → post (nI (gw_code ds))) : wpL_word post () x (nI s) := by
  refine nm_e ⟨s + 1, ?_⟩
  refine pk_loopD (fun n k (acc : List Nat) => wL_word_6 post x n (nI (gw_code acc)) (nI k - 1)) (fun k acc => acc.length + k = s ∧ ∀ d, d ∈ acc → d < 6) ?_ ?_ s [] ⟨by simp, by simp⟩
  · intro n acc ha
    exact br_t gn_m1lt (h acc (by have := ha.1; omega) ha.2)
  · intro n k acc ha hw
    show wL_word_6 post x (n + 1) (nI (gw_code acc)) (nI (k + 1) - 1)
    rw [nI_pred]
    obtain ⟨hk, ha⟩ := ha
    obtain ⟨j, hj, ej⟩ := pk_andE (x >>> ((3 * nI k) &&& 31)) (m := 7) 3 (by decide)
    refine br_f (nI_pos (by omega)) ⟨by decide, nm_r (e' := nI (gw_code (j % 6 :: acc))) ?_ (nm_r (gn_dec k) (hw (j % 6 :: acc) ⟨by simp only [List.length_cons]; omega, fun d hd => ?_⟩))⟩
    · rw [ej, show nI j - nI j / 6 * 6 = nI (j % 6) from pk_rem (d := 6) (by omega) (by decide) (by decide)]
      show nI 7 * nI (gw_code acc) + nI 1 + nI (j % 6) = nI (j % 6 + 1 + 7 * gw_code acc)
      rw [pk_mul, nI_add, nI_add]
      congr 1
      omega
    · rw [List.mem_cons] at hd
      rcases hd with hd | hd
      · omega
      · exact ha d hd
theorem ga_code_drop {ds : List Nat} {i : Nat} (h : i < ds.length) : gw_code (ds.drop i) = ds.getD i 0 + 1 + 7 * gw_code (ds.drop (i + 1)) := by
  rw [gw_drop h]
  rfl
theorem ga_dig {ds : List Nat} {i : Nat} (hd : ∀ d, d ∈ ds → d < 6) (hl : ds.length ≤ 8) (h : i < ds.length) : nI (gw_code (ds.drop i)) - nI (gw_code (ds.drop i)) / 7 * 7 - 1 = nI (ds.getD i 0) ∧ nI (gw_code (ds.drop i)) / 7 = nI (gw_code (ds.drop (i + 1))) := by
  have h6 := hd _ (gw_getD_mem h)
  have hc : gw_code (ds.drop i) < 2 ^ 31 := ga_code8 (fun d hd' => hd d (List.mem_of_mem_drop hd')) (by rw [List.length_drop]; omega)
  rw [ga_rem7 hc, ga_div7 hc]
  rw [ga_code_drop h]
  rw [show (ds.getD i 0 + 1 + 7 * gw_code (ds.drop (i + 1))) % 7 = ds.getD i 0 + 1 by omega, show (ds.getD i 0 + 1 + 7 * gw_code (ds.drop (i + 1))) / 7 = gw_code (ds.drop (i + 1)) by omega]
  exact ⟨nI_pred _, rfl⟩
theorem ga_rule {post : Int32 → St1 → Prop} (u : St1) {c : Nat} {ds : List Nat} (hc : c < 6) (hd : ∀ d, d ∈ ds → d < 6) (hl : ds.length ≤ 4)
    (h : ∀ s, (∀ j, (j < 4 * c ∨ 4 * c + 4 ≤ j) → s j = gw_a2 u j) → (∀ k, k < ds.length → s (4 * c + k) = nI (ds.getD k 0)) → post (nI ds.length) (gs_ru u 0 0 (upd (gw_a1 u) c (nI ds.length)) s)) : wpX_rule post u (nI c) (nI (gw_code ds)) := by
  show (nI c < 0 → post (-1) u) ∧ (¬ nI c < 0 → ((nI c < 6 → wpX_sizeOf (fun r => (0 ≤ r → ∃ fu, lo_rule31 post (nI c) r fu (nI (gw_code ds)) (nI 0) u) ∧ (¬ 0 ≤ r → post (-2) u)) () (nI (gw_code ds)) (nI 4)) ∧ (¬ nI c < 6 → post (-1) u)))
  refine br_f (nI_pos (by omega)) (pk_lt c 6 (fun _ => ?_) (fun z => absurd z (by omega)))
  refine ga_size (m := 4) (by omega) hd hl (br_t (nI_pos' (by omega)) ?_)
  refine pk_loop (fun n i s => lo_rule31 post (nI c) (nI ds.length) n (nI (gw_code (ds.drop i))) (nI i) (gs_rul u (gw_a1 u) s)) (fun i s => (∀ j, (j < 4 * c ∨ 4 * c + 4 ≤ j) → s j = gw_a2 u j) ∧ ∀ k, k < i → s (4 * c + k) = nI (ds.getD k 0)) ds.length 0 (gw_a2 u) (by omega) ⟨fun _ _ => rfl, fun k hk => absurd hk (by omega)⟩ ?_ ?_
  · intro n s hs
    refine pk_le ds.length ds.length (fun _ => ?_) (fun z => absurd z (by omega))
    show vp_in (nI c) 6 ∧ ∀ x, x = upd (gw_a1 u) (nI c).toNatClampNeg (nI ds.length) → post (nI ds.length) (gs_ru u 0 0 x s)
    exact ⟨pk_in c 6 hc, nm_r (e' := upd (gw_a1 u) c (nI ds.length)) (by rw [nI_clamp (by omega)]) (h s hs.1 hs.2)⟩
  · intro n i s hi hs hw
    obtain ⟨g1, g2⟩ := ga_dig hd (by omega) hi
    have e4 : 4 * nI c + nI i = nI (4 * c + i) := gn_lin 4 c i
    refine pk_le ds.length i (fun z => absurd z (by omega)) (fun _ => ?_)
    show ¬ (7 : Int32) = 0 ∧ (vp_in (4 * nI c + nI i) 24 ∧ ∀ x, x = upd s (4 * nI c + nI i).toNatClampNeg (nI (gw_code (ds.drop i)) - nI (gw_code (ds.drop i)) / 7 * 7 - 1) → (¬ (7 : Int32) = 0 ∧ ∀ y, y = nI (gw_code (ds.drop i)) / 7 → ∀ z, z = nI i + 1 → lo_rule31 post (nI c) (nI ds.length) n y z (gs_rul u (gw_a1 u) x)))
    refine ⟨by decide, by rw [e4]; exact pk_in (4 * c + i) 24 (by omega), nm_r (e' := upd s (4 * c + i) (nI (ds.getD i 0))) (by rw [e4, nI_clamp (by omega), g1]) ⟨by decide, nm_r g2 (nm_r (nI_1 i) (hw (upd s (4 * c + i) (nI (ds.getD i 0))) ⟨fun j hj => ?_, fun k hk => ?_⟩))⟩⟩
    · rw [pk_un (by omega)]
      exact hs.1 j hj
    · by_cases e : k = i
      · rw [e, pk_us]
      · rw [pk_un (by omega)]
        exact hs.2 k (by omega)
theorem ga_begin {post : Int32 → St1 → Prop} (u : St1) {ds : List Nat} (hd : ∀ d, d ∈ ds → d < 6) (h1 : 1 ≤ ds.length) (hl : ds.length ≤ 8)
    (h : ∀ s, (∀ k, k < ds.length → s k = nI (ds.getD k 0)) → post (nI ds.length) (gs_fst u (nI ds.length) s)) : wpX_begin post u (nI (gw_code ds)) := by
  show wpX_sizeOf (fun r => (1 ≤ r → ∃ fu, lo_begin post r fu (nI (gw_code ds)) (nI 0) u) ∧ (¬ 1 ≤ r → post (-1) u)) () (nI (gw_code ds)) (nI 8)
  refine ga_size (m := 8) (by omega) hd hl (pk_le 1 ds.length (fun _ => ?_) (fun z => absurd z (by omega)))
  refine pk_loop (fun n i s => lo_begin post (nI ds.length) n (nI (gw_code (ds.drop i))) (nI i) (gs_fst u (gw_fs u) s)) (fun i s => ∀ k, k < i → s k = nI (ds.getD k 0)) ds.length 0 (gw_a3 u) (by omega) (fun k hk => absurd hk (by omega)) ?_ ?_
  · intro n s hs
    refine pk_le ds.length ds.length (fun _ => ?_) (fun z => absurd z (by omega))
    show post (nI ds.length) (gs_fst u (nI ds.length) s)
    exact h s hs
  · intro n i s hi hs hw
    obtain ⟨g1, g2⟩ := ga_dig hd hl hi
    refine pk_le ds.length i (fun z => absurd z (by omega)) (fun _ => ?_)
    show ¬ (7 : Int32) = 0 ∧ (vp_in (nI i) 8 ∧ ∀ x, x = upd s (nI i).toNatClampNeg (nI (gw_code (ds.drop i)) - nI (gw_code (ds.drop i)) / 7 * 7 - 1) → (¬ (7 : Int32) = 0 ∧ ∀ y, y = nI (gw_code (ds.drop i)) / 7 → ∀ z, z = nI i + 1 → lo_begin post (nI ds.length) n y z (gs_fst u (gw_fs u) x)))
    refine ⟨by decide, pk_in i 8 (by omega), nm_r (e' := upd s i (nI (ds.getD i 0))) (by rw [nI_clamp (by omega), g1]) ⟨by decide, nm_r g2 (nm_r (nI_1 i) (hw (upd s i (nI (ds.getD i 0))) (fun k hk => ?_)))⟩⟩
    by_cases e : k = i
    · rw [e, pk_us]
    · rw [pk_un e]
      exact hs k (by omega)
end
section
/-! prepare: afterLetter, restart, the forms' states -/
def gb_gd (P : List Nat) (s c k : Nat) : Nat → Bool
  | 0 => decide (P.getD k 0 = c)
  | i + 1 => gb_gd P s c k i && decide (P.getD i 0 = P.getD (s - k + i) 0)
def gb_gr (P : List Nat) (k : Nat) : Nat → Bool
  | 0 => true
  | i + 1 => gb_gr P k i && decide (P.getD i 0 = P.getD (P.length - k + i) 0)
def gb_b (b : Bool) : Int32 := if b = true then 1 else 0
theorem gb_gd_iff {P : List Nat} {s c k : Nat} : ∀ i, gb_gd P s c k i = true ↔ (P.getD k 0 = c ∧ ∀ j, j < i → P.getD j 0 = P.getD (s - k + j) 0)
  | 0 => by simp [gb_gd]
  | i + 1 => by
    show (gb_gd P s c k i && decide (P.getD i 0 = P.getD (s - k + i) 0)) = true ↔ _
    rw [Bool.and_eq_true, gb_gd_iff i, decide_eq_true_iff]
    constructor
    · rintro ⟨⟨h1, h2⟩, h3⟩
      refine ⟨h1, fun j hj => ?_⟩
      by_cases e : j = i
      · rw [e]; exact h3
      · exact h2 j (by omega)
    · rintro ⟨h1, h2⟩
      exact ⟨⟨h1, fun j hj => h2 j (by omega)⟩, h2 i (by omega)⟩
theorem gb_gr_iff {P : List Nat} {k : Nat} : ∀ i, gb_gr P k i = true ↔ (∀ j, j < i → P.getD j 0 = P.getD (P.length - k + j) 0)
  | 0 => by simp [gb_gr]
  | i + 1 => by
    show (gb_gr P k i && decide (P.getD i 0 = P.getD (P.length - k + i) 0)) = true ↔ _
    rw [Bool.and_eq_true, gb_gr_iff i, decide_eq_true_iff]
    constructor
    · rintro ⟨h2, h3⟩ j hj
      by_cases e : j = i
      · rw [e]; exact h3
      · exact h2 j (by omega)
    · intro h2
      exact ⟨fun j hj => h2 j (by omega), h2 i (by omega)⟩
theorem gb_Qa {P : List Nat} {s c k : Nat} (hs : s < P.length) (hk : k ≤ s) : gk_Qa P s c (k + 1) = gb_gd P s c k k := by
  rw [Bool.eq_iff_iff, gk_Qa_iff hs hk, gb_gd_iff]
theorem gb_Qr {P : List Nat} {k : Nat} (hk : k < P.length) : gk_Qr P k = gb_gr P k k := by
  rw [Bool.eq_iff_iff, gk_Qr_iff hk, gb_gr_iff]
theorem gb_dn_t {Q : Nat → Bool} {k : Nat} (h : Q (k + 1) = true) : gk_dn Q (k + 1) = k + 1 := by
  show (if Q (k + 1) = true then k + 1 else gk_dn Q k) = _
  rw [if_pos h]
theorem gb_dn_f {Q : Nat → Bool} {k : Nat} (h : Q (k + 1) = false) : gk_dn Q (k + 1) = gk_dn Q k := by
  show (if Q (k + 1) = true then k + 1 else gk_dn Q k) = _
  rw [if_neg (by rw [h]; decide)]
theorem gb_pat {P : List Nat} {a : Nat → Int32} (hP : gw_okP P) (ha : ∀ k, k < P.length → a k = nI (P.getD k 0)) {i j : Nat} (hi : i < P.length) (hj : j < P.length) : a i = a j ↔ P.getD i 0 = P.getD j 0 := by
  have h1 := hP.2.2 _ (gw_getD_mem hi)
  have h2 := hP.2.2 _ (gw_getD_mem hj)
  rw [ha i hi, ha j hj, nI_eq (by omega) (by omega)]
theorem gb_ix (s k : Nat) (h : k ≤ s) : nI s - nI (k + 1) + 1 = nI (s - k) := by
  rw [← pk_sub h, nI_succ]
  grind
theorem gb_al30 {post : Int32 → Prop} {J : Int32 → Prop} {P : List Nat} (v : St1) {s c k : Nat} (hP : gw_okP P) (ha : ∀ k, k < P.length → gw_a19 v k = nI (P.getD k 0)) (hs : s < P.length) (hk : k ≤ s)
    (h1 : gk_Qa P s c (k + 1) = true → post (nI (k + 1))) (h2 : gk_Qa P s c (k + 1) = false → J (nI k)) : ∃ fu, lo_al30 post J (nI s) (nI c) (nI (k + 1)) fu (gb_b (gb_gd P s c k 0)) (nI 0) v := by
  have hP4 := hP.2.1
  rw [gb_Qa hs hk] at h1 h2
  refine pk_loop (σ := Unit) (fun n i _ => lo_al30 post J (nI s) (nI c) (nI (k + 1)) n (gb_b (gb_gd P s c k i)) (nI i) v) (fun _ _ => True) k 0 () (by omega) trivial ?_ ?_
  · intro n _ _
    refine pk_le k k (fun _ => ?_) (fun z => absurd z (by omega)) (nI_pred k)
    cases hb : gb_gd P s c k k with
    | true => exact br_f (by decide) (h1 hb)
    | false => exact br_t (by decide) (nm_r (pk_m1 k) (h2 hb))
  · intro n i _ hi _ hw
    refine pk_le k i (fun z => absurd z (by omega)) (fun _ => ?_) (nI_pred k)
    have hw' := hw () trivial
    have hgd : gb_gd P s c k (i + 1) = (gb_gd P s c k i && decide (P.getD i 0 = P.getD (s - k + i) 0)) := rfl
    have ei : nI s - nI (k + 1) + 1 + nI i = nI (s - k + i) := by rw [gb_ix s k hk, nI_add]
    have hq := gb_pat hP ha (show i < P.length by omega) (show s - k + i < P.length by omega)
    cases hb : gb_gd P s c k i with
    | false =>
      refine br_t (by decide) (nm_r (nI_1 i) ?_)
      rw [hgd, hb] at hw'
      exact hw'
    | true =>
      refine br_f (by decide) ⟨pk_in i 4 (by omega), by rw [ei]; exact pk_in (s - k + i) 4 (by omega), ?_⟩
      rw [ei, nI_clamp (by omega), nI_clamp (by omega)]
      by_cases e : P.getD i 0 = P.getD (s - k + i) 0
      · refine br_t (hq.mpr e) (nm_r (nI_1 i) ?_)
        rw [hgd, hb, decide_eq_true e] at hw'
        exact hw'
      · refine br_f (fun z => e (hq.mp z)) (nm_r (nI_1 i) ?_)
        rw [hgd, hb, decide_eq_false e] at hw'
        exact hw'
theorem gb_after {post : Int32 → Prop} {P : List Nat} (v : St1) {s c : Nat} (hP : gw_okP P) (ha : ∀ k, k < P.length → gw_a19 v k = nI (P.getD k 0)) (hs : s < P.length) (hc : c < 6) (h : post (nI (gk_af P s c))) : wpX_afterLetter post v (nI s) (nI c) := by
  have hP4 := hP.2.1
  refine nm_r (nI_1 s) ⟨s + 1 + 1, ?_⟩
  refine pk_loopD (σ := Unit) (fun n k _ => lo_al4 post (nI s) (nI c) n (nI k) v) (fun k _ => k ≤ s + 1 ∧ gk_dn (gk_Qa P s c) k = gk_af P s c) ?_ ?_ (s + 1) () ⟨Nat.le_refl _, rfl⟩
  · intro n _ hk
    refine br_t (show nI 0 ≤ 0 by decide) ?_
    rw [← hk.2] at h
    exact h
  · intro n k _ hk hw
    obtain ⟨hk1, hk2⟩ := hk
    have h6 := hP.2.2 _ (gw_getD_mem (show k < P.length by omega))
    have h1 : gk_Qa P s c (k + 1) = true → post (nI (k + 1)) := fun e => by rw [← hk2, gb_dn_t e] at h; exact h
    have h2 : gk_Qa P s c (k + 1) = false → lo_al4J post (nI s) (nI c) n v (nI k) := fun e => hw () ⟨by omega, by rw [← hk2, gb_dn_f e]⟩
    have key := gb_al30 (post := post) (J := lo_al4J post (nI s) (nI c) n v) v hP ha hs (show k ≤ s by omega) h1 h2
    refine br_f (nI_nle (by omega) (by omega)) ⟨pk_in k 4 (by omega) (nI_pred k), ?_⟩
    by_cases e : P.getD k 0 = c
    · refine br_t ?_ ?_
      · rw [nI_pred, nI_clamp (by omega)]
        exact (ha k (by omega)).trans (congrArg nI e)
      · have hg : gb_gd P s c k 0 = true := decide_eq_true e
        rw [hg] at key
        exact key
    · refine br_f ?_ ?_
      · rw [nI_pred, nI_clamp (by omega)]
        intro z
        exact e ((nI_eq (by omega) (by omega)).mp ((ha k (by omega)).symm.trans z))
      · have hg : gb_gd P s c k 0 = false := decide_eq_false e
        rw [hg] at key
        exact key
theorem gb_rs15 {post : Int32 → Prop} {J : Int32 → Prop} {P : List Nat} (v : St1) {k : Nat} (hP : gw_okP P) (hps : gw_ps v = nI P.length) (ha : ∀ k, k < P.length → gw_a19 v k = nI (P.getD k 0)) (hk0 : 0 < k) (hk : k < P.length)
    (h1 : gk_Qr P k = true → post (nI k)) (h2 : gk_Qr P k = false → J (nI (k - 1))) : ∃ fu, lo_rs15 post J (nI k) fu (gb_b (gb_gr P k 0)) (nI 0) v := by
  have hP4 := hP.2.1
  rw [gb_Qr hk] at h1 h2
  refine pk_loop (σ := Unit) (fun n i _ => lo_rs15 post J (nI k) n (gb_b (gb_gr P k i)) (nI i) v) (fun _ _ => True) k 0 () (by omega) trivial ?_ ?_
  · intro n _ _
    refine pk_le k k (fun _ => ?_) (fun z => absurd z (by omega))
    cases hb : gb_gr P k k with
    | true => exact br_f (by decide) (h1 hb)
    | false => exact br_t (by decide) (nm_r (sb_m1 hk0) (h2 hb))
  · intro n i _ hi _ hw
    refine pk_le k i (fun z => absurd z (by omega)) (fun _ => ?_)
    have hw' := hw () trivial
    have hgd : gb_gr P k (i + 1) = (gb_gr P k i && decide (P.getD i 0 = P.getD (P.length - k + i) 0)) := rfl
    have ei : gw_ps v - nI k + nI i = nI (P.length - k + i) := by rw [hps, pk_sub (by omega), nI_add]
    have hq := gb_pat hP ha (show i < P.length by omega) (show P.length - k + i < P.length by omega)
    cases hb : gb_gr P k i with
    | false =>
      refine br_t (by decide) (nm_r (nI_1 i) ?_)
      rw [hgd, hb] at hw'
      exact hw'
    | true =>
      refine br_f (by decide) ⟨pk_in i 4 (by omega), pk_in (P.length - k + i) 4 (by omega) ei, ?_⟩
      have e1 : gw_a19 v (nI i).toNatClampNeg = gw_a19 v i := by rw [nI_clamp (by omega)]
      have e2 : gw_a19 v (gw_ps v - nI k + nI i).toNatClampNeg = gw_a19 v (P.length - k + i) := by rw [ei, nI_clamp (by omega)]
      by_cases e : P.getD i 0 = P.getD (P.length - k + i) 0
      · refine br_t (e1.trans ((hq.mpr e).trans e2.symm)) (nm_r (nI_1 i) ?_)
        rw [hgd, hb, decide_eq_true e] at hw'
        exact hw'
      · refine br_f (fun z => e (hq.mp (e1.symm.trans (Eq.trans z e2)))) (nm_r (nI_1 i) ?_)
        rw [hgd, hb, decide_eq_false e] at hw'
        exact hw'
theorem gb_rest {post : Int32 → Prop} {P : List Nat} (v : St1) (hP : gw_okP P) (hps : gw_ps v = nI P.length) (ha : ∀ k, k < P.length → gw_a19 v k = nI (P.getD k 0)) (h : post (nI (gk_rs P))) : wpX_restart post v := by
  have hP4 := hP.2.1
  have hP1 := hP.1
  refine nm_r (e' := nI (P.length - 1)) ?_ ⟨P.length - 1 + 1, ?_⟩
  · show gw_ps v - 1 = _
    rw [hps]
    exact pk_sub (b := 1) hP1
  refine pk_loopD (σ := Unit) (fun n k _ => lo_rs7 post n (nI k) v) (fun k _ => k < P.length ∧ gk_dn (gk_Qr P) k = gk_rs P) ?_ ?_ (P.length - 1) () ⟨by omega, rfl⟩
  · intro n _ hk
    refine br_t (show nI 0 ≤ 0 by decide) ?_
    rw [← hk.2] at h
    exact h
  · intro n k _ hk hw
    obtain ⟨hk1, hk2⟩ := hk
    have h1 : gk_Qr P (k + 1) = true → post (nI (k + 1)) := fun e => by rw [← hk2, gb_dn_t e] at h; exact h
    have h2 : gk_Qr P (k + 1) = false → lo_rs7J post n v (nI (k + 1 - 1)) := fun e => hw () ⟨by omega, by rw [← hk2, gb_dn_f e]⟩
    exact br_f (nI_nle (by omega) (by omega)) (gb_rs15 (post := post) (J := lo_rs7J post n v) v hP hps ha (by omega) hk1 h1 h2)
end
section
/-! the states of the forms -/
def gb_ent (R : Nat → List Nat) (P : List Nat) (x y : Nat → Int32) (g : Nat) : Prop := ∀ s, s < P.length → x (4 * g + s) = nI (gk_S P s (gx_fx R g)) ∧ y (4 * g + s) = nI (gk_H P s (gx_fx R g))
theorem gb_154 {post : St1 → Prop} {J : gw_JA} (v : St1) {x2 x3 x5 x6 : Int32} {f s : Nat} {x y : Nat → Int32} (hf : f < 78) (hs : s < 4)
    (h : lo_J J (nI (s + 1)) (gs_fo v (upd x (4 * f + s) x5) (upd y (4 * f + s) x6))) : lo_ls154 post J (nI f) x2 x3 (nI s) x5 x6 (gs_fo v x y) := by
  have e4 : 4 * nI f + nI s = nI (4 * f + s) := gn_lin 4 f s
  exact ⟨by rw [e4]; exact pk_in (4 * f + s) 312 (by omega), nm_r (e' := upd x (4 * f + s) x5) (by rw [e4, nI_clamp (by omega)]) ⟨by rw [e4]; exact pk_in (4 * f + s) 312 (by omega), nm_r (e' := upd y (4 * f + s) x6) (by rw [e4, nI_clamp (by omega)]) (nm_r (nI_1 s) h)⟩⟩
theorem gb_83z {post : St1 → Prop} {J : gw_JA} (w : St1) {x1 x4 x5 x6 : Int32} {c : Nat} (hc : c < 6) (h : lo_ls154 post J x1 (nI c) (nI 0) x4 x5 x6 w) : ∃ fu, lo_ls83 post J x1 (nI c) (nI 0) x4 fu x5 x6 (nI 0) w :=
  ⟨1, pk_in c 6 hc, fun _ => h, fun _ => br_t (show nI 0 ≤ 0 by decide) h⟩
theorem gb_83 {post : St1 → Prop} {J : gw_JA} {R : Nat → List Nat} {P : List Nat} (v : St1) {x y : Nat → Int32} {x1 : Int32} {c l s : Nat} (hc : c < 6) (hl : l + 1 < 13) (hP : gw_okP P) (hs : s < P.length) (hR : gx_okR R) (hru : gw_rul R (gw_a1 v) (gw_a2 v)) (hlow : ∀ g, g < 78 → g % 13 = l → gb_ent R P x y g)
    (h : lo_ls154 post J x1 (nI c) (nI (l + 1)) (nI s) (nI (gk_S P s (gx_fx R (13 * c + (l + 1))))) (nI (gk_H P s (gx_fx R (13 * c + (l + 1))))) (gs_fo v x y)) : ∃ fu, lo_ls83 post J x1 (nI c) (nI (l + 1)) (nI s) fu (nI s) (nI 0) (nI 0) (gs_fo v x y) := by
  have hR4 := (hR c hc).1
  have hP4 := hP.2.1
  have ea : gw_a1 v (nI c).toNatClampNeg = nI (R c).length := by
    rw [nI_clamp (by omega)]
    exact (hru c hc).1
  refine pk_loop (σ := Unit) (fun n i _ => lo_ls83 post J x1 (nI c) (nI (l + 1)) (nI s) n (nI (gk_S P s (gx_pre R c l i))) (nI (gk_H P s (gx_pre R c l i))) (nI i) (gs_fo v x y)) (fun _ _ => True) (R c).length 0 () (by omega) trivial ?_ ?_
  · intro n _ _
    refine ⟨pk_in c 6 hc, pk_le (R c).length (R c).length (fun _ => ?_) (fun z => absurd z (by omega)) ea rfl (by omega) (by omega)⟩
    rw [gx_pre_all hl]
    exact h
  · intro n i _ hi _ hw
    have h6 : (R c).getD i 0 < 6 := (hR c hc).2 _ (gw_getD_mem hi)
    have hS := gk_S_lt (P := P) (gx_pre R c l i) hs
    have e4 : 4 * nI c + nI i = nI (4 * c + i) := gn_lin 4 c i
    have hg : 13 * (R c).getD i 0 + l < 78 := by omega
    have e5 : 4 * nI (13 * (R c).getD i 0 + l) + nI (gk_S P s (gx_pre R c l i)) = nI (4 * (13 * (R c).getD i 0 + l) + gk_S P s (gx_pre R c l i)) := gn_lin 4 _ _
    have hin : vp_in (4 * nI (13 * (R c).getD i 0 + l) + nI (gk_S P s (gx_pre R c l i))) 312 := pk_in (4 * (13 * (R c).getD i 0 + l) + gk_S P s (gx_pre R c l i)) 312 (by omega) e5
    have hent := hlow _ hg (by omega) _ hS
    have hw' := hw () trivial
    rw [gx_pre_succ (by omega) hi, gk_S_app, gk_H_app] at hw'
    refine ⟨pk_in c 6 hc, pk_le (R c).length i (fun z => absurd z (by omega)) (fun _ => br_f (nI_nle (by omega) (by omega)) ⟨by rw [e4]; exact pk_in (4 * c + i) 24 (by omega), gp_form ((R c).getD i 0) l ?_ (nI_pred l) ⟨hin, nm_r (e' := nI (gk_H P s (gx_pre R c l i) + gk_H P (gk_S P s (gx_pre R c l i)) (gx_fx R (13 * (R c).getD i 0 + l)))) ?_ ⟨hin, nm_r (e' := nI (gk_S P (gk_S P s (gx_pre R c l i)) (gx_fx R (13 * (R c).getD i 0 + l)))) ?_ (nm_r (nI_1 i) hw')⟩⟩⟩) ea rfl (by omega) (by omega)⟩
    · rw [e4, nI_clamp (by omega)]
      exact (hru c hc).2 i hi
    · rw [e5, nI_clamp (by omega), ← nI_add]
      exact congrArg (fun z => nI (gk_H P s (gx_pre R c l i)) + z) hent.2
    · rw [e5, nI_clamp (by omega)]
      exact hent.1
end
section
theorem gb_lay {post : St1 → Prop} {R : Nat → List Nat} {P : List Nat} (v : St1) {x y : Nat → Int32} {f : Nat} (hf : f < 78) (hP : gw_okP P) (hR : gx_okR R) (hru : gw_rul R (gw_a1 v) (gw_a2 v)) (hps : gw_ps v = nI P.length) (ha : ∀ k, k < P.length → gw_a19 v k = nI (P.getD k 0)) (h20 : ∀ s c, s < P.length → c < 6 → gw_a20 v (6 * s + c) = nI (gk_af P s c)) (hlow : ∀ g, g < 78 → g % 13 + 1 = f % 13 → gb_ent R P x y g)
    (h : ∀ x' y', (∀ j, (j < 4 * f ∨ 4 * f + 4 ≤ j) → x' j = x j ∧ y' j = y j) → gb_ent R P x' y' f → post (gs_fo v x' y')) : wpX_layStates post (gs_fo v x y) (nI f) := by
  have hP4 := hP.2.1
  show wpX_letterOf (fun c => wpX_levelOf (fun l => ∃ fu, lo_ls13 post (nI f) c l fu (nI 0) (gs_fo v x y)) () (nI f)) () (nI f)
  refine gp_letter f (by omega) (gp_level f (by omega) ?_)
  refine pk_loop (fun n s (q : (Nat → Int32) × (Nat → Int32)) => lo_ls13 post (nI f) (nI (f / 13)) (nI (f % 13)) n (nI s) (gs_fo v q.1 q.2)) (fun s q => (∀ j, (j < 4 * f ∨ 4 * f + 4 ≤ j) → q.1 j = x j ∧ q.2 j = y j) ∧ ∀ r, r < s → q.1 (4 * f + r) = nI (gk_S P r (gx_fx R f)) ∧ q.2 (4 * f + r) = nI (gk_H P r (gx_fx R f))) P.length 0 (x, y) (by omega) ⟨fun _ _ => ⟨rfl, rfl⟩, fun r hr => absurd hr (by omega)⟩ ?_ ?_
  · intro n q hq
    exact pk_le P.length P.length (fun _ => h q.1 q.2 hq.1 hq.2) (fun z => absurd z (by omega)) hps rfl
  · intro n s q hs hq hw
    have fin : ∀ x5 x6 x2 x3, x5 = nI (gk_S P s (gx_fx R f)) → x6 = nI (gk_H P s (gx_fx R f)) → lo_ls154 post (lo_ls13J post (nI f) (nI (f / 13)) (nI (f % 13)) n (gs_fo v q.1 q.2)) (nI f) x2 x3 (nI s) x5 x6 (gs_fo v q.1 q.2) := by
      intro x5 x6 x2 x3 e5 e6
      refine gb_154 v hf (by omega) (hw (upd q.1 (4 * f + s) x5, upd q.2 (4 * f + s) x6) ⟨fun j hj => ?_, fun r hr => ?_⟩)
      · show upd q.1 _ _ j = x j ∧ upd q.2 _ _ j = y j
        rw [pk_un (by omega), pk_un (by omega)]
        exact hq.1 j hj
      · show upd q.1 _ _ (4 * f + r) = _ ∧ upd q.2 _ _ (4 * f + r) = _
        by_cases e : r = s
        · rw [e, pk_us, pk_us]
          exact ⟨e5, e6⟩
        · rw [pk_un (by omega), pk_un (by omega)]
          exact hq.2 r (by omega)
    refine pk_le P.length s (fun z => absurd z (by omega)) (fun _ => pk_eq (f % 13) 0 (fun z => ?_) (fun z => ?_)) hps rfl
    · have e6 : 6 * nI s + nI (f / 13) = nI (6 * s + f / 13) := gn_lin 6 s (f / 13)
      have hfx := gx_fx_0 (R := R) z
      have haf := gk_af_le P s (f / 13)
      refine ⟨by rw [e6]; exact pk_in (6 * s + f / 13) 24 (by omega), nm_r (e' := nI (gk_af P s (f / 13))) (by rw [e6, nI_clamp (by omega)]; exact h20 s (f / 13) hs (by omega)) ?_⟩
      refine pk_eq (gk_af P s (f / 13)) P.length (fun z1 => ?_) (fun z1 => ?_) rfl hps
      · refine br_t rfl (gb_rest (gs_fo v q.1 q.2) hP hps ha ?_)
        rw [z] at fin ⊢
        refine gb_83z _ (by omega) (fin _ _ _ _ ?_ ?_)
        · rw [hfx]
          show _ = nI (gk_st P s (f / 13))
          unfold gk_st
          rw [if_pos z1]
        · rw [hfx]
          show _ = nI (gk_ht P s (f / 13) + 0)
          unfold gk_ht
          rw [if_pos z1]
          rfl
      · refine br_f (by decide) ?_
        rw [z] at fin ⊢
        refine gb_83z _ (by omega) (fin _ _ _ _ ?_ ?_)
        · rw [hfx]
          show _ = nI (gk_st P s (f / 13))
          unfold gk_st
          rw [if_neg z1]
        · rw [hfx]
          show _ = nI (gk_ht P s (f / 13) + 0)
          unfold gk_ht
          rw [if_neg z1]
          rfl
    · obtain ⟨l, hl⟩ : ∃ l, f % 13 = l + 1 := ⟨f % 13 - 1, by omega⟩
      have ef : f = 13 * (f / 13) + (l + 1) := by omega
      have key := gb_83 (post := post) (J := lo_ls13J post (nI f) (nI (f / 13)) (nI (f % 13)) n (gs_fo v q.1 q.2)) (R := R) (P := P) v (x := q.1) (y := q.2) (x1 := nI f) (c := f / 13) (l := l) (s := s) (by omega) (by omega) hP hs hR hru (fun g hg hgl r hr => by
        rw [(hq.1 (4 * g + r) (by omega)).1, (hq.1 (4 * g + r) (by omega)).2]
        exact hlow g hg (by omega) r hr) (fin _ _ _ _ (by rw [← ef]) (by rw [← ef]))
      rw [← hl] at key
      exact key
theorem gb_119 {post : St1 → Prop} {R : Nat → List Nat} {P : List Nat} (v : St1) {x y : Nat → Int32} (hP : gw_okP P) (hR : gx_okR R) (hru : gw_rul R (gw_a1 v) (gw_a2 v)) (hps : gw_ps v = nI P.length) (ha : ∀ k, k < P.length → gw_a19 v k = nI (P.getD k 0)) (h20 : ∀ s c, s < P.length → c < 6 → gw_a20 v (6 * s + c) = nI (gk_af P s c))
    (h : ∀ x' y', (∀ g, g < 78 → gb_ent R P x' y' g) → post (gs_fo v x' y')) : ∃ fu, lo_pr119 post fu (nI 0) (gs_fo v x y) := by
  refine pk_loop (fun n i (q : (Nat → Int32) × (Nat → Int32)) => lo_pr119 post n (nI i) (gs_fo v q.1 q.2)) (fun i q => ∀ g, g < 78 → 6 * (g % 13) + g / 13 < i → gb_ent R P q.1 q.2 g) 78 0 (x, y) (by omega) (fun g _ hg => absurd hg (by omega)) ?_ ?_
  · intro n q hq
    exact pk_le 78 78 (fun _ => h q.1 q.2 (fun g hg => hq g hg (by omega))) (fun z => absurd z (by omega))
  · intro n i q hi hq hw
    refine pk_le 78 i (fun z => absurd z (by omega)) (fun _ => ⟨by decide, by decide, gp_form (i % 6) (i / 6) (pk_rem (d := 6) (by omega) (by decide) (by decide)) (pk_div (d := 6) (by omega) (by decide) (by decide)) ?_⟩)
    have hfm : (13 * (i % 6) + i / 6) % 13 = i / 6 := by omega
    have hfd : (13 * (i % 6) + i / 6) / 13 = i % 6 := by omega
    refine gb_lay (R := R) (P := P) v (show 13 * (i % 6) + i / 6 < 78 by omega) hP hR hru hps ha h20 (fun g hg hgl => hq g hg (by rw [hfm] at hgl; omega)) (fun x' y' h1 h2 => nm_r (nI_1 i) (hw (x', y') (fun g hg hgi => ?_)))
    by_cases e : g = 13 * (i % 6) + i / 6
    · rw [e]
      exact h2
    · intro s hs
      have hP4 := hP.2.1
      show x' _ = _ ∧ y' _ = _
      rw [(h1 (4 * g + s) (by omega)).1, (h1 (4 * g + s) (by omega)).2]
      exact hq g hg (by omega) s hs
end
section
theorem gb_68 {post : St1 → Prop} {P : List Nat} (v : St1) (hP : gw_okP P) (hps : gw_ps v = nI P.length) (ha : ∀ k, k < P.length → gw_a19 v k = nI (P.getD k 0))
    (h : ∀ x, (∀ s c, s < P.length → c < 6 → x (6 * s + c) = nI (gk_af P s c)) → ∃ fu, lo_pr119 post fu (nI 0) (gs_st v x)) : ∃ fu, lo_pr68 post fu (nI 0) v := by
  have hP4 := hP.2.1
  refine pk_loop (fun n s x => lo_pr68 post n (nI s) (gs_st v x)) (fun s x => ∀ r c, r < s → c < 6 → x (6 * r + c) = nI (gk_af P r c)) P.length 0 (gw_a20 v) (by omega) (fun r c hr => absurd hr (by omega)) ?_ ?_
  · intro n x hx
    exact pk_le P.length P.length (fun _ => h x hx) (fun z => absurd z (by omega)) hps rfl
  · intro n s x hs hx hw
    refine pk_le P.length s (fun z => absurd z (by omega)) (fun _ => ?_) hps rfl
    refine pk_loop (fun m c y => lo_pr79 post (lo_pr68J post n v) (nI s) m (nI c) (gs_st v y)) (fun c y => (∀ r d, r < s → d < 6 → y (6 * r + d) = nI (gk_af P r d)) ∧ ∀ d, d < c → y (6 * s + d) = nI (gk_af P s d)) 6 0 x (by omega) ⟨hx, fun d hd => absurd hd (by omega)⟩ ?_ ?_
    · intro m y hy
      refine pk_le 6 6 (fun _ => nm_r (nI_1 s) (hw y (fun r c hr hc => ?_))) (fun z => absurd z (by omega))
      by_cases e : r = s
      · rw [e]
        exact hy.2 c hc
      · exact hy.1 r c (by omega) hc
    · intro m c y hc hy hw2
      have e6 : 6 * nI s + nI c = nI (6 * s + c) := gn_lin 6 s c
      refine pk_le 6 c (fun z => absurd z (by omega)) (fun _ => gb_after (P := P) (gs_st v y) hP ha hs hc ⟨by rw [e6]; exact pk_in (6 * s + c) 24 (by omega), nm_r (e' := upd y (6 * s + c) (nI (gk_af P s c))) (by rw [e6, nI_clamp (by omega)]) (nm_r (nI_1 c) (hw2 _ ⟨fun r d hr hd => ?_, fun d hd => ?_⟩))⟩)
      · rw [pk_un (by omega)]
        exact hy.1 r d hr hd
      · by_cases e : d = c
        · rw [e, pk_us]
        · rw [pk_un (by omega)]
          exact hy.2 d (by omega)
end
section
theorem gb_prep {post : St1 → Prop} {R : Nat → List Nat} {F : List Nat} {P : List Nat} (u : St1) (hJ : gw_J R F u) (hP : gw_okP P) (h : ∀ v, gw_J R F v → gw_tab R P (gw_ps v) (gw_a21 v) (gw_a22 v) → post v) : wpX_prepare post u (nI (gw_code P)) := by
  have hP4 := hP.2.1
  have hpos := gw_code_pos hP
  have hlt := gw_code_4 hP
  obtain ⟨⟨hR, hF, hru, hfs, hpat⟩, h5, h6⟩ := hJ
  by_cases e : gw_pn u = nI (gw_code P)
  · refine br_t e (h u ⟨⟨hR, hF, hru, hfs, hpat⟩, h5, h6⟩ ?_)
    rcases hpat with hz | ⟨Q, hQ, hq, ht⟩
    · rw [hz] at e
      exact absurd e.symm (nI_ne0 hpos (by omega))
    · rw [hq] at e
      have hQ4 := gw_code_4 hQ
      have e' := (nI_eq (by omega) (by omega)).mp e
      rw [gw_code_inj hQ.2.2 hP.2.2 e'] at ht
      exact ht
  · refine br_f e ?_
    refine pk_loop (fun n i s => lo_pr21 post n (nI (gw_code (P.drop i))) (gs_pat u (nI (gw_code P)) (nI i) s)) (fun i s => ∀ k, k < i → s k = nI (P.getD k 0)) P.length 0 (gw_a19 u) (by omega) (fun k hk => absurd hk (by omega)) ?_ ?_
    · intro n s hs
      refine br_t (by rw [List.drop_length]; decide) ?_
      refine gb_68 (P := P) (gs_pat u (nI (gw_code P)) (nI P.length) s) hP rfl hs (fun x hx => ?_)
      refine gb_119 (R := R) (P := P) (gs_st (gs_pat u (nI (gw_code P)) (nI P.length) s) x) hP hR hru rfl hs hx (fun x' y' hxy => ?_)
      have tb : gw_tab R P (nI P.length) x' y' := ⟨rfl, fun f s hf hs => hxy f hf s hs⟩
      exact h _ ⟨⟨hR, hF, hru, hfs, Or.inr ⟨P, hP, rfl, tb⟩⟩, h5, h6⟩ tb
    · intro n i s hi hs hw
      obtain ⟨g1, g2⟩ := ga_dig hP.2.2 (by omega) hi
      have hc : gw_code (P.drop i) < 2 ^ 31 := ga_code8 (fun d hd' => hP.2.2 d (List.mem_of_mem_drop hd')) (by rw [List.length_drop]; omega)
      have hcp : 0 < gw_code (P.drop i) := by rw [ga_code_drop hi]; omega
      refine br_f (nI_nle hcp hc) (pk_le 4 i (fun z => absurd z (by omega)) (fun _ => ⟨by decide, pk_in i 4 (by omega), nm_r (e' := upd s i (nI (P.getD i 0))) (by rw [g1, nI_clamp (by omega)]) ⟨by decide, nm_r g2 (nm_r (nI_1 i) (hw _ (fun k hk => ?_)))⟩⟩))
      by_cases e : k = i
      · rw [e, pk_us]
      · rw [pk_un e]
        exact hs k (by omega)
end
section
/-! the public methods: count, common, find, occurrences, letterAt -/
theorem gw_J_tp {R : Nat → List Nat} {F : List Nat} {v : St1} {t p : Nat → Int32} (h : gw_J R F v) : gw_J R F (gs_tp v t p) := ⟨⟨h.1.1, h.1.2.1, h.1.2.2.1, h.1.2.2.2.1, h.1.2.2.2.2⟩, h.2.1, h.2.2⟩
theorem gc_count {post : Int32 → St1 → Prop} {R : Nat → List Nat} {F : List Nat} (u : St1) {n d : Nat} (hI : gw_I R F u) (hn : n < 13) (hd : d < 6) (hfit : gx_fit R F n) (h : ∀ v, gw_J R F v → post (nI ((gx_W R F n).count d)) v) : wpX_count post u (nI n) (nI d) (nI 0) (nI (gx_W R F n).length) := by
  unfold wpX_count
  refine gl_ref (R := R) (F := F) u hn hI (fun _ v hv => ?_) (fun hf => absurd hfit hf)
  have hR := hv.1.1
  have hF := hv.1.2.1
  have hfs := hv.1.2.2.2.1
  have hlen := gx_W_len hR hF (n := n) (by omega)
  refine br_t rfl (br_f (nI_pos (by omega)) (pk_lt d 6 (fun _ => ?_) (fun z => absurd z (by omega))))
  refine gl_len (R := R) (F := F) v hn hF hfs hv.2.1 (br_t (show (0 : Int32) ≤ nI 0 by decide) ?_)
  refine pk_le (gx_W R F n).length (gx_W R F n).length (fun _ => ?_) (fun z => absurd z (by omega))
  refine pk_lt 0 (gx_W R F n).length (fun z => ?_) (fun z => ?_)
  · refine gp_cb0 (R := R) (F := F) v (t := gw_a23 v) (p := gw_a24 v) hn hR hF hfs hv.2.1 (fun t1 p1 => ?_)
    refine gp_cbA (R := R) (F := F) v (t := t1) (p := p1) hd hn hR hF hfs hv.2.1 hv.2.2 (fun t2 p2 => ?_)
    have := h (gs_tp v t2 p2) (gw_J_tp hv)
    rw [show nI ((gx_W R F n).count d) = nI ((gx_W R F n).count d) - nI 0 from (pk_sub (Nat.zero_le _)).symm] at this
    exact this
  · have e : gx_W R F n = [] := List.eq_nil_of_length_eq_zero (by omega)
    have := h v hv
    rw [e] at this
    exact this
theorem gc_common {post : Int32 → St1 → Prop} {R : Nat → List Nat} {F : List Nat} (u : St1) {n : Nat} (hI : gw_I R F u) (hn : n < 13) (hfit : gx_fit R F n) (h : ∀ v, gw_J R F v → post (nI (gx_W R F n).length) v) : wpX_common post u (nI n) (nI n) := by
  refine br_f (nI_pos (by omega)) (pk_le 13 n (fun z => absurd z (by omega)) (fun _ => br_f (nI_pos (by omega)) (pk_lt n 13 (fun _ => ?_) (fun z => absurd z (by omega)))))
  refine gl_ref (R := R) (F := F) u hn hI (fun _ w hw => ?_) (fun hf => absurd hfit hf)
  refine gl_ref (R := R) (F := F) w hn (gw_JI hw) (fun _ v hv => ?_) (fun hf => absurd hfit hf)
  have hR := hv.1.1
  have hF := hv.1.2.1
  have hfs := hv.1.2.2.2.1
  refine br_t rfl (br_t rfl ?_)
  refine gp_begin (R := R) (F := F) (r := 0) v (t := gw_a23 v) (p := gw_a24 v) (by omega) hn hR hF hfs hv.2.1 (fun t1 p1 L1 hr1 e1 el1 _ _ => ?_)
  refine gp_begin (R := R) (F := F) (r := 1) v (t := t1) (p := p1) (by omega) hn hR hF hfs hv.2.1 (fun t2 p2 L2 hr2 e2 el2 hq hj => ?_)
  have eL : L2 = L1 := el2.trans el1.symm
  subst eL
  have hlen := gw_ok_len hr1.2.2
  have r0 : gw_rd R t2 p2 0 L2 := ⟨by rw [hq 0 (by decide)]; exact hr1.1, gw_pl_keep hr1.2.1 (fun j h1 h2 => hj j (by omega)), hr1.2.2⟩
  refine gp_nextT v (r := 0) (by omega) r0 (gp_nextT v (r := 1) (by omega) hr2 ⟨40, ?_⟩)
  refine gp_comL (post := post) (R := R) v hv.2.1 40 L2 0 0 t2 p2 (by omega) (by omega) r0 hr2 (fun t3 p3 => ?_)
  rw [e1, Nat.zero_add]
  exact h _ (gw_J_tp hv)
end
section
theorem gk_H_le (P : List Nat) : ∀ (t : List Nat) (s : Nat), gk_H P s t ≤ t.length
  | [], _ => Nat.le_refl 0
  | c :: t, s => by
    have h := gk_H_le P t (gk_st P s c)
    have h1 : gk_ht P s c ≤ 1 := by
      unfold gk_ht
      split <;> omega
    show gk_ht P s c + gk_H P (gk_st P s c) t ≤ t.length + 1
    omega
theorem gp_findL {post : Int32 → St1 → Prop} {R : Nat → List Nat} {P T : List Nat} (u : St1) {from0 : Nat} (hR : gx_okR R) (hr : gw_rul R (gw_a1 u) (gw_a2 u)) (h5 : gw_siz R (gw_a5 u)) (hP : gw_okP P) (htab : gw_tab R P (gw_ps u) (gw_a21 u) (gw_a22 u)) (hT : from0 + T.length < 2 ^ 30)
    (h4 : gk_H P 0 T = 0 → ∀ t' p', post (-4) (gs_tp u t' p')) (h1 : ∀ t1 c t2, T = t1 ++ c :: t2 → gk_H P 0 t1 = 0 → gk_ht P (gk_S P 0 t1) c ≠ 0 → ∀ t' p', post (nI (from0 + (t1.length + 1 - P.length))) (gs_tp u t' p')) : ∀ (n : Nat) (as bs : List Nat) (lv i : Nat) (t p : Nat → Int32) (t1 : List Nat), as.length + 5 * lv < n → n + i ≤ 1000 → (∀ f, f ∈ as → f % 13 ≤ lv) → (bs = [] ∨ gk_H P (gk_S P 0 t1) (gx_tx R as) ≠ 0) → gw_rd R t p 0 (as ++ bs) → gk_H P 0 t1 = 0 → T = t1 ++ gx_tx R (as ++ bs) →
    lo_find67 post n (nI (from0 + t1.length)) (nI (gk_S P 0 t1)) (gw_top (as ++ bs)) (nI i) (gs_tp u t p) := by
  have hP4 := hP.2.1
  have hP1 := hP.1
  have hPne : P ≠ [] := by
    intro e
    rw [e] at hP1
    exact absurd hP1 (by decide)
  intro n
  induction n with
  | zero => intro as bs lv i t p t1 h; omega
  | succ n ih =>
    intro as bs lv i t p t1 hb hi hlv hbs hrd h0 hT1
    refine pk_le 1000 i (fun z => absurd z (by omega)) (fun _ => ?_)
    cases as with
    | nil =>
      have hbs' : bs = [] := by
        rcases hbs with hbs | hbs
        · exact hbs
        · exact absurd rfl hbs
      subst hbs'
      refine br_t (show (-1 : Int32) < 0 by decide) (h4 ?_ t p)
      rw [hT1, show gx_tx R ([] ++ []) = [] from rfl, List.append_nil, h0]
    | cons f as =>
      have hf := hrd.2.2.1.1
      have hne := hrd.2.2.1.2.2
      have hfl := gx_fx_len hR hf
      have hlvf := hlv f (by simp)
      have hbl : (f :: as).length = as.length + 1 := rfl
      have hS := gk_S_lt (P := P) t1 (s := 0) (by omega)
      have hHl := gk_H_le P (gx_fx R f) (gk_S P 0 t1)
      have e4 : 4 * nI f + nI (gk_S P 0 t1) = nI (4 * f + gk_S P 0 t1) := gn_lin 4 _ _
      have hin : vp_in (4 * nI f + nI (gk_S P 0 t1)) 312 := pk_in (4 * f + gk_S P 0 t1) 312 (by omega) e4
      have ht := htab.2 f (gk_S P 0 t1) hf hS
      have ea : gw_a5 u (nI f).toNatClampNeg = nI (gx_fx R f).length := by
        rw [nI_clamp (by omega)]
        exact h5 f hf
      have e22 : gw_a22 u (4 * nI f + nI (gk_S P 0 t1)).toNatClampNeg = nI (gk_H P (gk_S P 0 t1) (gx_fx R f)) := by
        rw [e4, nI_clamp (by omega)]
        exact ht.2
      have e21 : gw_a21 u (4 * nI f + nI (gk_S P 0 t1)).toNatClampNeg = nI (gk_S P (gk_S P 0 t1) (gx_fx R f)) := by
        rw [e4, nI_clamp (by omega)]
        exact ht.1
      have eT : gx_tx R ((f :: as) ++ bs) = gx_fx R f ++ gx_tx R (as ++ bs) := rfl
      refine br_f (nI_pos (show f < 2 ^ 31 by omega)) ⟨hin, pk_eq (gk_H P (gk_S P 0 t1) (gx_fx R f)) 0 (fun z => ?_) (fun z => ?_) e22 rfl (by omega) (by omega)⟩
      · refine ⟨hin, nm_r (e' := nI (gk_S P 0 (t1 ++ gx_fx R f))) (e21.trans (by rw [gk_S_app])) ⟨pk_in f 78 hf, nm_r (e' := nI (from0 + (t1 ++ gx_fx R f).length)) ?_ (nm_r (e' := upd t 0 (nI (as ++ bs).length)) (gw_dec1 hrd.1) ?_)⟩⟩
        · refine (congrArg (fun y => nI (from0 + t1.length) + y) ea).trans ?_
          show nI _ + nI _ = _
          rw [nI_add, List.length_append]
          congr 1
          omega
        · refine gp_nextT u (r := 0) (by decide) (gw_rd_pop hrd) (nm_r (nI_1 i) ?_)
          refine ih as bs lv (i + 1) _ p (t1 ++ gx_fx R f) (by omega) (by omega) (fun g hg => hlv g (by simp [hg])) ?_ (gw_rd_pop hrd) (by rw [gk_H_app, h0, z]) (by rw [hT1, eT, List.append_assoc])
          rcases hbs with hbs | hbs
          · exact Or.inl hbs
          · rw [gx_tx_cons, gk_H_app, z] at hbs
            rw [gk_S_app]
            exact Or.inr (fun e => hbs (by rw [e]))
      · refine gp_level f (by omega) (pk_eq (f % 13) 0 (fun hv => ?_) (fun hv => ?_))
        · have hfx := gx_fx_0 (R := R) hv
          rw [hfx] at z eT
          have hht : gk_ht P (gk_S P 0 t1) (f / 13) ≠ 0 := fun e => z (show gk_ht P (gk_S P 0 t1) (f / 13) + 0 = 0 by rw [e])
          have hres := h1 t1 (f / 13) (gx_tx R (as ++ bs)) (by rw [hT1, eT]; rfl) h0 hht t p
          have hfst := (gk_first (t2 := gx_tx R (as ++ bs)) hPne h0 hht).1
          have e5 : nI (from0 + t1.length) + 1 - gw_ps u = nI (from0 + (t1.length + 1 - P.length)) := by
            rw [htab.1, nI_1, pk_sub (by omega)]
            congr 1
            omega
          rw [← e5] at hres
          exact hres
        · refine gp_open u (L := as ++ bs) hR hr h5 hrd hv (fun t' p' hrd' => ?_)
          refine gp_nextT u (r := 0) (by decide) hrd' (nm_r (nI_1 i) ?_)
          refine ih (gx_ne R (gx_ch (R (f / 13)) (f % 13 - 1))) (as ++ bs) (lv - 1) (i + 1) t' p' t1 ?_ (by omega) (fun g hg => ?_) (Or.inr ?_) hrd' h0 ?_
          · have g1 := gx_ch_len (R := R) (ds := R (f / 13)) (l := f % 13 - 1)
            have g2 := (hR (f / 13) (by omega)).1
            omega
          · have := gx_ch_mem (by omega) hg
            omega
          · rw [← gx_fx_open hv]
            exact z
          · rw [gx_tx_app, ← gx_fx_open hv, hT1, eT]
end
section
def gc_fr (P T : List Nat) (from0 : Nat) (r : Int32) : Prop := (gk_oc P (T.drop from0) = 0 ∧ r = -4) ∨ ∃ i, r = nI (from0 + i) ∧ from0 + i < T.length ∧ P <+: (T.drop from0).drop i ∧ ∀ j, j < i → ¬ P <+: (T.drop from0).drop j
theorem gc_find {post : Int32 → St1 → Prop} {R : Nat → List Nat} {F P : List Nat} (u : St1) {n from0 : Nat} (hI : gw_I R F u) (hn : n < 13) (hfit : gx_fit R F n) (hP : gw_okP P) (hfr : from0 ≤ 100000) (h : ∀ v r, gw_J R F v → gc_fr P (gx_W R F n) from0 r → post r v) : wpX_find post u (nI n) (nI (gw_code P)) (nI from0) := by
  have hP1 := hP.1
  have hPne : P ≠ [] := by
    intro e
    rw [e] at hP1
    exact absurd hP1 (by decide)
  unfold wpX_find
  refine gl_ref (R := R) (F := F) u hn hI (fun _ w hw => ?_) (fun hf => absurd hfit hf)
  refine br_t rfl (ga_isP hP (br_f (by decide) ?_))
  refine gb_prep (R := R) (F := F) (P := P) w hw hP (fun v hv htab => ?_)
  have hR := hv.1.1
  have hF := hv.1.2.1
  have hru := hv.1.2.2.1
  have hfs := hv.1.2.2.2.1
  have hlen := hfit n (Nat.le_refl n)
  refine br_t (nI_pos' (by omega)) ?_
  refine gp_begin (R := R) (F := F) (r := 0) v (t := gw_a23 v) (p := gw_a24 v) (by omega) hn hR hF hfs hv.2.1 (fun t1 p1 L1 hr1 e1 _ _ _ => ?_)
  refine gp_skip (R := R) v hR hru hv.2.1 hr1 (show from0 < 2 ^ 31 by omega) (fun t2 p2 L2 hr2 e2 => ?_)
  refine gp_nextT v (r := 0) (by omega) hr2 ⟨200, ?_⟩
  have hl2 := gw_ok_len hr2.2.2
  rw [e1] at e2
  have key := gp_findL (post := post) (R := R) (P := P) (T := (gx_W R F n).drop from0) v (from0 := from0) hR hru hv.2.1 hP htab (by rw [List.length_drop]; omega)
    (fun hz t' p' => h _ _ (gw_J_tp hv) (Or.inl ⟨by rw [← gk_HO hPne]; exact hz, rfl⟩))
    (fun s1 c s2 eT hz hh t' p' => h _ _ (gw_J_tp hv) (Or.inr ⟨s1.length + 1 - P.length, rfl, ?_, ?_⟩)) 200 L2 [] 12 0 t2 p2 [] (by omega) (by omega) (fun f _ => by omega) (Or.inl rfl) (by rw [List.append_nil]; exact hr2) rfl (by rw [List.append_nil, List.nil_append, e2])
  · rw [List.append_nil] at key
    exact key
  · have hl := congrArg List.length eT
    rw [List.length_drop, List.length_append, List.length_cons] at hl
    omega
  · rw [eT]
    exact (gk_first (t2 := s2) hPne hz hh).2
theorem gc_occ {post : Int32 → St1 → Prop} {R : Nat → List Nat} {F P : List Nat} (u : St1) {n : Nat} (hI : gw_I R F u) (hn : n < 13) (hfit : gx_fit R F n) (hP : gw_okP P) (h : ∀ v, gw_J R F v → post (nI (gk_oc P (gx_W R F n))) v) : wpX_occurrences post u (nI n) (nI (gw_code P)) := by
  have hP1 := hP.1
  have hP4 := hP.2.1
  have hPne : P ≠ [] := by
    intro e
    rw [e] at hP1
    exact absurd hP1 (by decide)
  unfold wpX_occurrences
  refine gl_ref (R := R) (F := F) u hn hI (fun _ w hw => ?_) (fun hf => absurd hfit hf)
  refine br_t rfl (ga_isP hP (br_f (by decide) ?_))
  refine gb_prep (R := R) (F := F) (P := P) w hw hP (fun v hv htab => ?_)
  have hF := hv.1.2.1
  have hF3 := hF.2.1
  have hfs := hv.1.2.2.2.1
  refine pk_loop (σ := Unit) (fun m i _ => lo_occ36 post (nI n) m (nI (gk_S P 0 ((F.take i).flatMap (gx_ex R n)))) (nI (gk_H P 0 ((F.take i).flatMap (gx_ex R n)))) (nI i) v) (fun _ _ => True) F.length 0 () (by omega) trivial ?_ ?_
  · intro m _ _
    refine pk_le F.length F.length (fun _ => ?_) (fun z => absurd z (by omega)) hfs.1 rfl
    rw [List.take_length, gk_HO hPne]
    exact h v hv
  · intro m i _ hi _ hw
    have h6 : F.getD i 0 < 6 := hF.2.2 _ (gw_getD_mem hi)
    have hS := gk_S_lt (P := P) ((F.take i).flatMap (gx_ex R n)) (s := 0) (by omega)
    have hg : 13 * F.getD i 0 + n < 78 := by omega
    have e4 : 4 * nI (13 * F.getD i 0 + n) + nI (gk_S P 0 ((F.take i).flatMap (gx_ex R n))) = nI (4 * (13 * F.getD i 0 + n) + gk_S P 0 ((F.take i).flatMap (gx_ex R n))) := gn_lin 4 _ _
    have hin : vp_in (4 * nI (13 * F.getD i 0 + n) + nI (gk_S P 0 ((F.take i).flatMap (gx_ex R n)))) 312 := pk_in (4 * (13 * F.getD i 0 + n) + gk_S P 0 ((F.take i).flatMap (gx_ex R n))) 312 (by omega) e4
    have ht := htab.2 _ _ hg hS
    have hw' := hw () trivial
    rw [gk_take hi, List.flatMap_append, List.flatMap_singleton, gk_S_app, gk_H_app, ← gx_fx_form hn] at hw'
    refine pk_le F.length i (fun z => absurd z (by omega)) (fun _ => ⟨pk_in i 8 (by omega), gp_form (F.getD i 0) n ?_ rfl ⟨hin, nm_r ?_ ⟨hin, nm_r ?_ (nm_r (nI_1 i) hw')⟩⟩⟩) hfs.1 rfl
    · rw [nI_clamp (by omega)]
      exact hfs.2 i hi
    · rw [e4, nI_clamp (by omega), ← nI_add]
      exact congrArg (fun z => nI (gk_H P 0 ((F.take i).flatMap (gx_ex R n))) + z) ht.2
    · rw [e4, nI_clamp (by omega)]
      exact ht.1
theorem gc_at {post : Int32 → St1 → Prop} {R : Nat → List Nat} {F : List Nat} (u : St1) {n k : Nat} (hI : gw_I R F u) (hn : n < 13) (hfit : gx_fit R F n) (hk : k ≤ 100000) (h0 : (gx_W R F n).length ≤ k → ∀ v, gw_J R F v → post (-3) v) (h1 : k < (gx_W R F n).length → ∀ v, gw_J R F v → post (nI ((gx_W R F n).getD k 0)) v) : wpX_letterAt post u (nI n) (nI k) := by
  unfold wpX_letterAt
  refine gl_ref (R := R) (F := F) u hn hI (fun _ v hv => ?_) (fun hf => absurd hfit hf)
  have hlen := hfit n (Nat.le_refl n)
  refine br_t rfl (br_f (nI_pos (by omega)) (gl_len (R := R) (F := F) v hn hv.1.2.1 hv.1.2.2.2.1 hv.2.1 ?_))
  refine pk_lt k (gx_W R F n).length (fun z => ?_) (fun z => h0 z v hv)
  exact gp_letterOn (R := R) (F := F) v (t := gw_a23 v) (p := gw_a24 v) hv.1.1 hv.1.2.1 hv.1.2.2.1 hv.1.2.2.2.1 hv.2.1 hn (by omega) (gw_drop z) (fun t1 p1 => h1 z _ (gw_J_tp hv))
end
section
/-! the law: counted, found, the six letters, the turns -/
theorem gd_cell {post : Int32 → Prop} {L : Nat} {xs : Nat → Int32} {k : Nat} (hL : L ≤ 260) (hk : k < 2 ^ 31) (h : ∀ x, post x) : wpL_cell post L xs () (nI k) :=
  pk_le L k (fun _ => h _) (fun z => ⟨pk_in k L z, h _⟩)
theorem gd_neg {m : Nat} (h : m < 2 ^ 31) {x : Int32} (hx : x < 0) : ¬ nI m = x := by
  intro e
  rw [← e] at hx
  exact nI_pos h hx
theorem gd_counted {post : Int32 → St1 → Prop} {R : Nat → List Nat} {F : List Nat} (u : St1) {n : Nat} {sz : Int32} (hI : gw_I R F u) (hn : n < 13) (hfit : gx_fit R F n) (hsz : ∀ c, c < 6 → (sz >>> ((3 * nI c) &&& 31)) &&& 7 = nI (R c).length) (h : ∀ v, gw_J R F v → post (nI 1) v) : wpL_counted post u (nI n) sz := by
  have hR := hI.1.1
  have hF := hI.1.2.1
  have hlen := hfit n (Nat.le_refl n)
  have hlt := gx_W_lt hR hF n
  have hcom : ∀ v, gw_J R F v → lo_cnt127 post (nI n) (nI (gx_W R F n).length) (nI (gx_sm (fun d => (gx_W R F n).count d) 6)) (nI 1) v := fun v hv => by
    refine br_t (congrArg nI (gx_cnt hlt)) (gc_common (R := R) (F := F) v (gw_JI hv) hn hfit (fun w hw => br_t rfl (br_f (by decide) (h w hw))))
  unfold wpL_counted
  refine gl_length (R := R) (F := F) u hn hI (fun _ w hw => ?_) (fun hf => absurd hfit hf)
  refine pk_loop (fun m c v => lo_cnt15 post (nI n) sz (nI (gx_W R F n).length) m (nI (gx_sm (fun d => (gx_W R F n).count d) c)) (nI (gx_sm (fun d => (gx_W R F n).count d * (R d).length) c)) (nI c) v) (fun _ v => gw_J R F v) 6 0 w (by omega) hw ?_ ?_
  · intro m v hv
    have enx : gx_sm (fun d => (gx_W R F n).count d * (R d).length) 6 = (gx_W R F (n + 1)).length := by
      rw [gx_nxt hlt, gx_W_succ]
    refine pk_le 6 6 (fun _ => ?_) (fun z => absurd z (by omega))
    rw [nI_1 n]
    by_cases e12 : n = 12
    · subst e12
      exact gl_length13 v (br_t rfl (br_t rfl (hcom v hv)))
    · have hlen1 := gx_W_len hR hF (n := n + 1) (by omega)
      refine gl_length (R := R) (F := F) v (show n + 1 < 13 by omega) (gw_JI hv) (fun hf1 x hx => ?_) (fun hf1 x hx => ?_)
      · refine pk_eq n 12 (fun z => absurd z e12) (fun _ => ?_)
        refine pk_le (gx_W R F (n + 1)).length 3000 (fun _ => br_t ?_ (hcom x hx)) (fun z => absurd z ?_) (congrArg nI enx) rfl
        · rw [enx]
        · have := hf1 (n + 1) (Nat.le_refl _)
          omega
      · refine pk_eq n 12 (fun z => absurd z e12) (fun _ => ?_)
        refine pk_le (gx_W R F (n + 1)).length 3000 (fun z => absurd (fun k hk => ?_) hf1) (fun _ => br_t rfl (hcom x hx)) (congrArg nI enx) rfl
        by_cases ek : k = n + 1
        · rw [ek]; exact z
        · exact hfit k (by omega)
  · intro m c v hc hv hw'
    refine pk_le 6 c (fun z => absurd z (by omega)) (fun _ => gc_count (R := R) (F := F) v (gw_JI hv) hn hc hfit (fun x hx => nm_r (nI_add _ _) (nm_r (e' := nI (gx_sm (fun d => (gx_W R F n).count d * (R d).length) (c + 1))) ?_ (nm_r (nI_1 c) (hw' x hx)))))
    rw [hsz c hc, pk_mul, nI_add]
    rfl
theorem gd_fndL {post : Int32 → St1 → Prop} {R : Nat → List Nat} {F P : List Nat} {n : Nat} (hn : n < 13) (hfit : gx_fit R F n) (hP : gw_okP P) (hlen : (gx_W R F n).length < 400) (h : ∀ v, gw_J R F v → post (nI 1) v) : ∀ (m : Nat) (v : St1) (from0 many : Nat) (r : Int32), gw_J R F v → gc_fr P (gx_W R F n) from0 r → many + gk_oc P ((gx_W R F n).drop from0) = gk_oc P (gx_W R F n) → gk_oc P ((gx_W R F n).drop from0) < m → lo_fnd14 post (nI n) (nI (gw_code P)) m (nI many) r (nI many) v := by
  intro m
  have hP1 := hP.1
  have hPne : P ≠ [] := by
    intro e
    rw [e] at hP1
    exact absurd hP1 (by decide)
  induction m with
  | zero => intro v from0 many r _ _ _ h; omega
  | succ m ih =>
    intro v from0 many r hv hfr hmany hm
    have hoc := gk_oc_le (P := P) (gx_W R F n)
    refine pk_le 3000 many (fun z => absurd z (by omega)) (fun _ => ?_)
    rcases hfr with ⟨h0, rfl⟩ | ⟨i, rfl, hlt, hp, hmin⟩
    · refine br_t (by decide) (br_t rfl (gc_occ (R := R) (F := F) (P := P) v (gw_JI hv) hn hfit hP (fun w hw => br_t (congrArg nI ?_) (h w hw))))
      omega
    · refine br_f (nI_pos (by omega)) (nm_r (nI_1 many) ?_)
      have e1 := gk_oc_drop (P := P) i ((gx_W R F n).drop from0) hmin
      rw [gk_oc_hit hPne _ hp, List.drop_drop, List.drop_drop] at e1
      have e2 : gk_oc P ((gx_W R F n).drop from0) = 1 + gk_oc P ((gx_W R F n).drop (from0 + i + 1)) := e1
      have key : ∀ post' : Int32 → St1 → Prop, (∀ w q, gw_J R F w → gc_fr P (gx_W R F n) (from0 + i + 1) q → post' q w) → wpX_find post' v (nI n) (nI (gw_code P)) (nI (from0 + i) + 1) := by
        intro post' hp'
        rw [nI_1 (from0 + i)]
        exact gc_find (R := R) (F := F) (P := P) v (gw_JI hv) hn hfit hP (by omega) hp'
      exact key _ (fun w q hw hq => nm_r (nI_1 many) (ih w (from0 + i + 1) (many + 1) q hw hq (by omega) (by omega)))
theorem gd_found {post : Int32 → St1 → Prop} {R : Nat → List Nat} {F P : List Nat} (u : St1) {n : Nat} (hI : gw_I R F u) (hn : n < 13) (hfit : gx_fit R F n) (hP : gw_okP P) (hlen : (gx_W R F n).length < 400) (h : ∀ v, gw_J R F v → post (nI 1) v) : wpL_found post u (nI n) (nI (gw_code P)) := by
  unfold wpL_found
  refine gc_find (R := R) (F := F) (P := P) (from0 := 0) u hI hn hfit hP (by omega) (fun v r hv hr => ⟨gk_oc P (gx_W R F n) + 1, ?_⟩)
  exact gd_fndL hn hfit hP hlen h (gk_oc P (gx_W R F n) + 1) v 0 0 r hv hr (by rw [List.drop_zero]; omega) (by rw [List.drop_zero]; omega)
/-- a one-letter word at a place -/
theorem gd_one {T : List Nat} {p k : Nat} (hp : p < T.length) : [k] <+: T.drop p ↔ T.getD p 0 = k := by
  rw [gw_drop hp, List.cons_prefix_cons]
  constructor
  · intro h; exact h.1.symm
  · intro h; exact ⟨h.symm, List.nil_prefix⟩
theorem gd_hit {T : List Nat} {p k : Nat} {r : Int32} (hp : p < T.length) (hT : T.length ≤ 3000) (h : gc_fr [k] T p r) : r = nI p ↔ T.getD p 0 = k := by
  rcases h with ⟨h0, rfl⟩ | ⟨i, rfl, hlt, hpre, hmin⟩
  · constructor
    · intro e
      exact absurd e.symm (gd_neg (by omega) (by decide))
    · intro e
      exact absurd ((gd_one hp).mpr e) (gk_oc_zero (P := [k]) (by simp) (T.drop p) 0 h0)
  · constructor
    · intro e
      have e' := (nI_eq (by omega) (by omega)).mp e
      have : i = 0 := by omega
      subst this
      exact (gd_one hp).mp hpre
    · intro e
      have : i = 0 := by
        rcases Nat.eq_zero_or_pos i with hi | hi
        · exact hi
        · exact absurd ((gd_one hp).mpr e) (hmin 0 hi)
      rw [this]
      rfl
theorem gd_283 {post : Int32 → Prop} {L : Nat} {xs : Nat → Int32} {J : gw_JS} {x2 : Int32} {i n p : Nat} {x11 : Int32} {kc ks : Nat} {R : Nat → List Nat} {F : List Nat} (w : St1) (hw : gw_J R F w) (hn : n < 13) (hfit : gx_fit R F n) (hp0 : (gx_W R F n).length = 0 → p = 0 ∧ x11 = -3) (hp1 : (gx_W R F n).length ≠ 0 → p < (gx_W R F n).length ∧ x11 = nI ((gx_W R F n).getD p 0))
    (h : ∀ v, gw_J R F v → lo_JS J (nI (i + 1)) v) : ∃ fu, lo_law283 post L xs J x2 (nI i) (nI n) (nI (gx_W R F n).length) (nI p) x11 kc ks fu (nI 0) w := by
  have hlen := hfit n (Nat.le_refl n)
  have hlt := gx_W_lt hw.1.1 hw.1.2.1 n
  refine pk_loop (fun m k v => lo_law283 post L xs J x2 (nI i) (nI n) (nI (gx_W R F n).length) (nI p) x11 kc ks m (nI k) v) (fun _ v => gw_J R F v) 6 0 w (by omega) hw ?_ ?_
  · intro m v hv
    exact pk_le 6 6 (fun _ => nm_r (nI_1 i) (h v hv)) (fun z => absurd z (by omega))
  · intro m k v hk hv hgo
    have hPk : gw_okP [k] := ⟨by simp, by simp, fun d hd => by simp at hd; omega⟩
    have hgo' : ∀ x, gw_J R F x → lo_law283 post L xs J x2 (nI i) (nI n) (nI (gx_W R F n).length) (nI p) x11 kc ks m (nI k + 1) x := fun x hx => by
      rw [nI_1 k]
      exact hgo x hx
    have key : ∀ post' : Int32 → St1 → Prop, (∀ x q, gw_J R F x → gc_fr [k] (gx_W R F n) p q → post' q x) → wpX_find post' v (nI n) (nI k + 1) (nI p) := by
      intro post' hp'
      have hpp : p ≤ 100000 := by
        by_cases e : (gx_W R F n).length = 0
        · have := (hp0 e).1; omega
        · have := (hp1 e).1; omega
      rw [nI_1 k]
      exact gc_find (R := R) (F := F) (P := [k]) v (gw_JI hv) hn hfit hPk hpp hp'
    refine pk_le 6 k (fun z => absurd z (by omega)) (fun _ => key _ (fun x q hx hq => ?_))
    have f1 : x11 = nI k → lo_law317 post L xs J (wL_law_283 post L xs J x2 (nI i) (nI n) (nI (gx_W R F n).length) (nI p) x11 kc ks m) x2 (nI i) (nI n) (nI (gx_W R F n).length) (nI p) x11 (nI k) 1 kc ks x := fun e => br_t e (br_t rfl (nm_e (hgo' x hx)))
    have f0 : ¬ x11 = nI k → lo_law317 post L xs J (wL_law_283 post L xs J x2 (nI i) (nI n) (nI (gx_W R F n).length) (nI p) x11 kc ks m) x2 (nI i) (nI n) (nI (gx_W R F n).length) (nI p) x11 (nI k) 0 kc ks x := fun e => br_f e (br_t rfl (nm_e (hgo' x hx)))
    by_cases e : (gx_W R F n).length = 0
    · have hx11 : ¬ x11 = nI k := by
        rw [(hp0 e).2]
        exact fun z => gd_neg (m := k) (x := -3) (by omega) (by decide) z.symm
      exact ⟨fun _ => ⟨fun _ => f0 hx11, fun z => absurd (show nI (gx_W R F n).length ≤ 0 by rw [e]; decide) z⟩, fun _ => f0 hx11⟩
    · obtain ⟨hpl, ex⟩ := hp1 e
      have h6 := hlt _ (gw_getD_mem hpl)
      have hh := gd_hit hpl hlen hq
      by_cases eq : (gx_W R F n).getD p 0 = k
      · exact br_t (hh.mpr eq) (br_f (nI_nle (by omega) (by omega)) (f1 (by rw [ex, eq])))
      · exact br_f (fun z => eq (hh.mp z)) (f0 (by rw [ex]; exact fun z => eq ((nI_eq (by omega) (by omega)).mp z)))
theorem gd_268 {post : Int32 → Prop} {L : Nat} {xs : Nat → Int32} {J : gw_JS} {x2 : Int32} {i n p : Nat} {kc ks : Nat} {R : Nat → List Nat} {F : List Nat} (w : St1) (hw : gw_J R F w) (hn : n < 13) (hfit : gx_fit R F n) (hp0 : (gx_W R F n).length = 0 → p = 0) (hp1 : (gx_W R F n).length ≠ 0 → p < (gx_W R F n).length)
    (h : ∀ v, gw_J R F v → lo_JS J (nI (i + 1)) v) : lo_law268 post L xs J x2 (nI i) (nI n) (nI (gx_W R F n).length) (nI p) kc ks w := by
  have hlen := hfit n (Nat.le_refl n)
  have hpp : p ≤ 100000 := by
    by_cases e : (gx_W R F n).length = 0
    · have := hp0 e; omega
    · have := hp1 e; omega
  show wpX_letterAt (fun r v => ∃ fu, lo_law283 post L xs J x2 (nI i) (nI n) (nI (gx_W R F n).length) (nI p) r kc ks fu (nI 0) v) w (nI n) (nI p)
  refine gc_at (R := R) (F := F) w (gw_JI hw) hn hfit hpp (fun hle v hv => ?_) (fun hlt v hv => ?_)
  · exact gd_283 (R := R) (F := F) v hv hn hfit (fun e => ⟨hp0 e, rfl⟩) (fun e => absurd (hp1 e) (by omega)) h
  · exact gd_283 (R := R) (F := F) v hv hn hfit (fun e => absurd hlt (by omega)) (fun e => ⟨hlt, rfl⟩) h
theorem gd_247 {post : Int32 → Prop} {L : Nat} {xs : Nat → Int32} {J : gw_JS} {x2 x6 : Int32} {i n : Nat} {kc ks : Nat} {R : Nat → List Nat} {F : List Nat} (w : St1) (hw : gw_J R F w) (hn : n < 13) (hfit : gx_fit R F n)
    (h : ∀ v, gw_J R F v → lo_JS J (nI (i + 1)) v) : lo_law247 post L xs J x2 (nI i) x6 (nI n) (nI (gx_W R F n).length) kc ks w := by
  have hlen := hfit n (Nat.le_refl n)
  refine pk_le (gx_W R F n).length 0 (fun z => ?_) (fun z => ?_)
  · exact gd_268 (R := R) (F := F) (p := 0) w hw hn hfit (fun _ => rfl) (fun e => absurd z (by omega)) h
  · obtain ⟨j, hj, ej⟩ := pk_andE (x6 >>> ((6 : Int32) &&& 31)) (m := 4095) 12 (by decide)
    have e : ((x6 >>> ((6 : Int32) &&& 31)) &&& 4095) - ((x6 >>> ((6 : Int32) &&& 31)) &&& 4095) / nI (gx_W R F n).length * nI (gx_W R F n).length = nI (j % (gx_W R F n).length) := by
      rw [ej]
      exact pk_rem (by omega) (by omega) (by omega)
    have key := gd_268 (post := post) (L := L) (xs := xs) (J := J) (x2 := x2) (i := i) (n := n) (p := j % (gx_W R F n).length) (kc := kc) (ks := ks) (R := R) (F := F) w hw hn hfit (fun e => absurd e (by omega)) (fun e => Nat.mod_lt _ (by omega)) h
    rw [← e] at key
    exact ⟨nI_ne0 (by omega) (by omega), key⟩
theorem gd_191 {post : Int32 → Prop} {L : Nat} {xs : Nat → Int32} {J : gw_JS} {x2 x6 : Int32} {i n : Nat} {kc ks : Nat} {R : Nat → List Nat} {F : List Nat} (w : St1) (hw : gw_I R F w) (hn : n < 13) (hfit : gx_fit R F n) (hsz : ∀ c, c < 6 → (x2 >>> ((3 * nI c) &&& 31)) &&& 7 = nI (R c).length)
    (h : ∀ v, gw_J R F v → lo_JS J (nI (i + 1)) v) : lo_law191 post L xs J x2 (nI i) x6 (nI n) (nI (gx_W R F n).length) kc ks w := by
  have hlen := hfit n (Nat.le_refl n)
  refine br_f (nI_pos (by omega)) (gd_counted (R := R) (F := F) w hw hn hfit hsz (fun v hv => br_f (by decide) ?_))
  obtain ⟨j, hj, ej⟩ := pk_andE (x6 >>> ((4 : Int32) &&& 31)) (m := 3) 2 (by decide)
  have e : 1 + ((x6 >>> ((4 : Int32) &&& 31)) &&& 3) = nI (1 + j) := by
    rw [ej]
    exact nI_add 1 j
  rw [e]
  refine ga_word (by omega) (fun ds hl hd => pk_le 400 (gx_W R F n).length (fun _ => ?_) (fun z => ?_))
  · exact gd_247 (R := R) (F := F) v hv hn hfit h
  · exact gd_found (R := R) (F := F) (P := ds) v (gw_JI hv) hn hfit ⟨by omega, by omega, hd⟩ z (fun y hy => br_f (by decide) (gd_247 (R := R) (F := F) y hy hn hfit h))
theorem gd_140 {L : Nat} {xs : Nat → Int32} {x2 : Int32} {kc ks : Nat} {R : Nat → List Nat} {F : List Nat} (w : St1) (hL : L ≤ 260) (hw : gw_I R F w) (hsz : ∀ c, c < 6 → (x2 >>> ((3 * nI c) &&& 31)) &&& 7 = nI (R c).length) : ∃ fu, lo_law140 (fun r => r = 1) L xs x2 kc ks fu (nI 7) w := by
  have hR := hw.1.1
  have hF := hw.1.2.1
  refine pk_loop (fun m i v => lo_law140 (fun r => r = 1) L xs x2 kc ks m (nI i) v) (fun _ v => gw_I R F v) 12 7 w (by omega) hw ?_ ?_
  · intro m v hv
    exact pk_le 12 12 (fun _ => rfl) (fun z => absurd z (by omega))
  · intro m i v hi hv hgo
    refine pk_le 12 i (fun z => absurd z (by omega)) (fun _ => gd_cell hL (by omega) (fun x => ⟨by decide, ?_⟩))
    obtain ⟨j, hj, ej⟩ := pk_andE x (m := 15) 4 (by decide)
    have hgo' : ∀ y, gw_J R F y → lo_JS (wL_law_140 (fun r => r = 1) L xs x2 kc ks m) (nI (i + 1)) y := fun y hy => hgo y (gw_JI hy)
    refine nm_r (e' := nI (j % 13)) (by rw [ej]; exact pk_rem (d := 13) (by omega) (by decide) (by decide)) ?_
    refine gl_length (R := R) (F := F) v (show j % 13 < 13 by omega) hv (fun hf y hy => ?_) (fun hf y hy => ?_)
    · have hlen := hf _ (Nat.le_refl _)
      exact br_f (gd_neg (by omega) (by decide)) (gd_191 (post := fun r => r = 1) (L := L) (xs := xs) (x6 := x) (kc := kc) (ks := ks) (R := R) (F := F) y (gw_JI hy) (by omega) hf hsz hgo')
    · have hf2 : gx_fit R F 2 := fun k hk => Nat.le_trans (gx_W_len2 hR hF hk) (by decide)
      exact br_t rfl (gl_length (R := R) (F := F) (n := 2) y (by omega) (gw_JI hy) (fun _ z hz => gd_191 (post := fun r => r = 1) (L := L) (xs := xs) (x6 := x) (kc := kc) (ks := ks) (R := R) (F := F) (n := 2) z (gw_JI hz) (by omega) hf2 hsz hgo') (fun hf' => absurd hf2 hf'))
end
section
/-! the law: the rules are set, the first word, the constructor -/
theorem ge_or (a b : Nat) : nI a ||| nI b = nI (a ||| b) := by
  apply Int32.toBitVec_inj.1
  show BitVec.ofNat 32 a ||| BitVec.ofNat 32 b = BitVec.ofNat 32 (a ||| b)
  apply BitVec.eq_of_getLsbD_eq
  intro i hi
  simp [hi]
theorem ge_cnt : ∀ c, c < 6 → (((3 * nI c) &&& 31).toBitVec.smod 32).toNat = 3 * c := by decide +kernel
theorem ge_pow {c : Nat} (hc : c < 6) : 2 ^ (3 * c) ≤ 32768 := Nat.pow_le_pow_right (n := 2) (j := 15) (by decide) (by omega)
theorem ge_put {S s c : Nat} (hc : c < 6) (hS : S < 2 ^ (3 * c)) (hs : s ≤ 4) : nI S ||| (nI s <<< ((3 * nI c) &&& 31)) = nI (S + s * 2 ^ (3 * c)) := by
  have hp := ge_pow hc
  have h4 : s * 2 ^ (3 * c) ≤ 4 * 32768 := Nat.mul_le_mul hs hp
  rw [pk_shlN _ (3 * c) (ge_cnt c hc) (by omega), ge_or]
  congr 1
  have h := Nat.two_pow_add_eq_or_of_lt hS s
  rw [Nat.or_comm, Nat.mul_comm s, ← h, Nat.add_comm]
theorem ge_get {S c : Nat} (hc : c < 6) (hS : S < 2 ^ 31) : (nI S >>> ((3 * nI c) &&& 31)) &&& 7 = nI (S / 2 ^ (3 * c) % 8) := by
  rw [pk_shrN hS _ (3 * c) (ge_cnt c hc)]
  have h : S / 2 ^ (3 * c) ≤ S := Nat.div_le_self _ _
  exact pk_andN (n := S / 2 ^ (3 * c)) (by omega) 3 (by decide)
theorem ge_same {S s d e : Nat} : (S + s * 2 ^ (3 * (d + e + 1))) / 2 ^ (3 * d) % 8 = S / 2 ^ (3 * d) % 8 := by
  have e1 : s * 2 ^ (3 * (d + e + 1)) = 2 ^ (3 * d) * (8 * (2 ^ (3 * e) * s)) := by
    rw [show 3 * (d + e + 1) = 3 * d + 3 * e + 3 by omega, Nat.pow_add, Nat.pow_add]
    show s * (2 ^ (3 * d) * 2 ^ (3 * e) * 8) = _
    generalize 2 ^ (3 * d) = a
    generalize 2 ^ (3 * e) = b
    grind
  rw [e1, Nat.add_mul_div_left _ _ (Nat.two_pow_pos _), Nat.add_mul_mod_self_left]
theorem ge_new {S s c : Nat} (hS : S < 2 ^ (3 * c)) (hs : s ≤ 4) : (S + s * 2 ^ (3 * c)) / 2 ^ (3 * c) % 8 = s := by
  rw [Nat.add_mul_div_right _ _ (Nat.two_pow_pos _), Nat.div_eq_of_lt hS]
  omega
def ge_I (c S : Nat) (R : Nat → List Nat) (v : St1) : Prop := gx_okR R ∧ gw_rul R (gw_a1 v) (gw_a2 v) ∧ gw_kn v = 0 ∧ gw_pn v = 0 ∧ S < 2 ^ (3 * c) ∧ ∀ d, d < c → S / 2 ^ (3 * d) % 8 = (R d).length
theorem ge_63 {post : Int32 → Prop} {L : Nat} {xs : Nat → Int32} {J : gw_JT} {x4 : Int32} {c S sz kc ks : Nat} {R : Nat → List Nat} (v : St1) (hc : c < 6) (hsz : sz ≤ 4) (hv : ge_I c S R v) (h : ∀ S' R' v', ge_I (c + 1) S' R' v' → lo_JT J (nI S') (nI (c + 1)) v') : lo_law63 post L xs J (nI S) (nI c) x4 (nI sz) kc ks v := by
  obtain ⟨hR, hru, hkn, hpn, hS, hd⟩ := hv
  refine ga_word (by omega) (fun ds hl hd6 => ?_)
  refine ga_rule v hc hd6 (by omega) (fun s h1 h2 => br_t (congrArg nI hl) (nm_r (ge_put hc hS hsz) (nm_r (nI_1 c) (h (S + sz * 2 ^ (3 * c)) (fun k => if k = c then ds else R k) (gs_ru v 0 0 (upd (gw_a1 v) c (nI ds.length)) s) ⟨fun k hk => ?_, fun k hk => ?_, rfl, rfl, ?_, fun d hdc => ?_⟩))))
  · by_cases e : k = c
    · simp only [e, if_true]
      exact ⟨by omega, hd6⟩
    · simp only [e, if_false]
      exact hR k hk
  · show upd (gw_a1 v) c (nI ds.length) k = nI (if k = c then ds else R k).length ∧ ∀ i, i < (if k = c then ds else R k).length → s (4 * k + i) = nI ((if k = c then ds else R k).getD i 0)
    by_cases e : k = c
    · subst e
      rw [if_pos rfl, pk_us]
      exact ⟨rfl, h2⟩
    · rw [if_neg e, pk_un e]
      refine ⟨(hru k hk).1, fun i hi => ?_⟩
      have h4 := (hR k hk).1
      rw [h1 (4 * k + i) (by omega)]
      exact (hru k hk).2 i hi
  · have e : 2 ^ (3 * (c + 1)) = 2 ^ (3 * c) * 8 := by rw [show 3 * (c + 1) = 3 * c + 3 by omega, Nat.pow_add]
    have h4 : sz * 2 ^ (3 * c) ≤ 4 * 2 ^ (3 * c) := Nat.mul_le_mul_right _ hsz
    omega
  · show (S + sz * 2 ^ (3 * c)) / 2 ^ (3 * d) % 8 = (if d = c then ds else R d).length
    by_cases e : d = c
    · rw [if_pos e, e, ge_new hS hsz, hl]
    · rw [if_neg e]
      obtain ⟨k, rfl⟩ : ∃ k, c = d + k + 1 := ⟨c - d - 1, by omega⟩
      rw [ge_same]
      exact hd d (by omega)
theorem ge_12 {L : Nat} {xs : Nat → Int32} {kc ks : Nat} (w : St1) {R : Nat → List Nat} (hL : L ≤ 260) (hw : ge_I 0 0 R w) : ∃ fu, lo_law12 (fun r => r = 1) L xs kc ks fu (nI 0) (nI 0) w := by
  refine pk_loop (fun m c (q : Nat × (Nat → List Nat) × St1) => lo_law12 (fun r => r = 1) L xs kc ks m (nI q.1) (nI c) q.2.2) (fun c q => ge_I c q.1 q.2.1 q.2.2) 6 0 (0, R, w) (by omega) hw ?_ ?_
  · intro m q hq
    obtain ⟨S, R, v⟩ := q
    obtain ⟨hR, hru, hkn, hpn, hS, hd⟩ := hq
    refine pk_le 6 6 (fun _ => gd_cell (k := 6) hL (by omega) (fun x => ⟨by decide, ?_⟩)) (fun z => absurd z (by omega))
    obtain ⟨j, hj, ej⟩ := pk_andE (x >>> ((9 : Int32) &&& 31)) (m := 15) 4 (by decide)
    refine nm_r (e' := nI (1 + j % 3)) ?_ (ga_word (by omega) (fun ds hl hd6 => ga_begin v hd6 (by omega) (by omega) (fun s hs => br_t (congrArg nI hl) (gd_140 (R := R) (F := ds) (gs_fst v (nI ds.length) s) hL ⟨⟨hR, ⟨by omega, by omega, hd6⟩, hru, ⟨rfl, hs⟩, Or.inl hpn⟩, Or.inl hkn⟩ (fun c hc => ?_)))))
    · rw [ej, show nI j - nI j / 3 * 3 = nI (j % 3) from pk_rem (d := 3) (by omega) (by decide) (by decide)]
      exact nI_add 1 (j % 3)
    · have hS' : S < 262144 := hS
      rw [ge_get hc (by omega), hd c hc]
  · intro m c q hc hq hgo
    obtain ⟨S, R, v⟩ := q
    have hgo' : ∀ S' R' v', ge_I (c + 1) S' R' v' → lo_JT (wL_law_12 (fun r => r = 1) L xs kc ks m) (nI S') (nI (c + 1)) v' := fun S' R' v' h' => hgo (S', R', v') h'
    refine pk_le 6 c (fun z => absurd z (by omega)) (fun _ => gd_cell hL (by omega) (fun x => ⟨by decide, ?_⟩))
    obtain ⟨j, hj, ej⟩ := pk_andE (x >>> ((12 : Int32) &&& 31)) (m := 15) 4 (by decide)
    refine nm_r (e' := nI (j % 5)) (by rw [ej]; exact pk_rem (d := 5) (by omega) (by decide) (by decide)) ?_
    refine pk_le (j % 5) 2 (fun z => ?_) (fun z => br_c (fun _ => ?_) (fun _ => ?_))
    · exact ge_63 (R := R) v hc (by omega) hq hgo'
    · have key := ge_63 (post := fun r => r = 1) (L := L) (xs := xs) (J := wL_law_12 (fun r => r = 1) L xs kc ks m) (x4 := x) (kc := kc) (ks := ks) (sz := j % 5 - 2) (R := R) v hc (by omega) hq hgo'
      rw [← pk_sub (show 2 ≤ j % 5 by omega)] at key
      exact key
    · exact ge_63 (R := R) v hc (by omega) hq hgo'
theorem ge_init {post : St1 → Prop} (h : ∀ x y : Nat → Int32, (∀ c, c < 6 → x c = nI 1 ∧ y (4 * c) = nI c) → post (1, 0, 0, 0, 0, 0, 0, 0, 0, 0, 0, 0, 0, 0, 0, 0, 0, x, y, (fun _ => 0), (fun _ => 0), (fun _ => 0), (fun _ => 0), (fun _ => 0), (fun _ => 0), (fun _ => 0), (fun _ => 0), (fun _ => 0), (fun _ => 0), (fun _ => 0), (fun _ => 0), (fun _ => 0), (fun _ => 0), (fun _ => 0), (fun _ => 0), (fun _ => 0), (fun _ => 0), (fun _ => 0), (fun _ => 0), (fun _ => 0), (fun _ => 0), (fun _ => 0))) : wpX_init post 25 2524 (0, 0, 0, 0, 0, 0, 0, 0, 0, 0, 0, 0, 0, 0, 0, 0, 0) := by
  refine ⟨by decide, by decide, by decide, by decide, by decide, by decide, by decide, by decide, by decide, by decide, by decide, by decide, by decide, by decide, by decide, by decide, by decide, by decide, by decide, by decide, by decide, by decide, by decide, by decide, by decide, by decide, by decide, by decide, by decide, by decide, by decide, by decide, by decide, by decide, by decide, by decide, by decide, by decide, by decide, by decide, by decide, by decide, by decide, by decide, by decide, by decide, by decide, by decide, by decide, by decide, ?_⟩
  refine pk_loop (fun n c (q : (Nat → Int32) × (Nat → Int32)) => wX_init_209 post 25 2524 25 2524 0 0 0 0 0 0 0 0 0 0 0 0 0 0 0 0 0 n (nI c) q.1 q.2 (fun _ => 0) (fun _ => 0) (fun _ => 0) (fun _ => 0) (fun _ => 0) (fun _ => 0) (fun _ => 0) (fun _ => 0) (fun _ => 0) (fun _ => 0) (fun _ => 0) (fun _ => 0) (fun _ => 0) (fun _ => 0) (fun _ => 0) (fun _ => 0) (fun _ => 0) (fun _ => 0) (fun _ => 0) (fun _ => 0) (fun _ => 0) (fun _ => 0) (fun _ => 0)) (fun c q => ∀ d, d < c → q.1 d = nI 1 ∧ q.2 (4 * d) = nI d) 6 0 ((fun _ => 0), (fun _ => 0)) (by omega) (fun d hd => absurd hd (by omega)) ?_ ?_
  · intro n q hq
    exact pk_le 6 6 (fun _ => h q.1 q.2 hq) (fun z => absurd z (by omega))
  · intro n c q hc hq hgo
    have e4 : 4 * nI c = nI (4 * c) := pk_mul 4 c
    refine pk_le 6 c (fun z => absurd z (by omega)) (fun _ => ⟨pk_in c 6 hc, nm_r (e' := upd q.1 c (nI 1)) (by rw [nI_clamp (by omega)]; rfl) ⟨pk_in (4 * c) 24 (by omega) e4, nm_r (e' := upd q.2 (4 * c) (nI c)) (by rw [e4, nI_clamp (by omega)]) (nm_r (nI_1 c) (hgo (upd q.1 c (nI 1), upd q.2 (4 * c) (nI c)) (fun d hd => ?_)))⟩⟩)
    show upd q.1 c (nI 1) d = nI 1 ∧ upd q.2 (4 * c) (nI c) (4 * d) = nI d
    by_cases e : d = c
    · subst e
      exact ⟨pk_us, pk_us⟩
    · rw [pk_un e, pk_un (by omega)]
      exact hq d (by omega)
theorem i_vc (xs : Nat → Int32) (L : Nat) (hL : L ≤ 260) : wpL_law (fun r => r = 1) L xs := by
  refine ⟨25, 2524, by decide, by decide, ge_init (fun x y hxy => ?_)⟩
  refine ge_12 (R := fun c => [c]) (1, 0, 0, 0, 0, 0, 0, 0, 0, 0, 0, 0, 0, 0, 0, 0, 0, x, y, (fun _ => 0), (fun _ => 0), (fun _ => 0), (fun _ => 0), (fun _ => 0), (fun _ => 0), (fun _ => 0), (fun _ => 0), (fun _ => 0), (fun _ => 0), (fun _ => 0), (fun _ => 0), (fun _ => 0), (fun _ => 0), (fun _ => 0), (fun _ => 0), (fun _ => 0), (fun _ => 0), (fun _ => 0), (fun _ => 0), (fun _ => 0), (fun _ => 0), (fun _ => 0)) hL ⟨fun c hc => ⟨by simp, fun d hd => ?_⟩, fun c hc => ⟨(hxy c hc).1, fun i hi => ?_⟩, rfl, rfl, by decide, fun d hd => absurd hd (by omega)⟩
  · rw [List.mem_singleton] at hd
    omega
  · have hi0 : i = 0 := by
      have : i < 1 := hi
      omega
    subst hi0
    exact (hxy c hc).2
end
