section
/-! numbers: a bounded whole number as an Int32 -/
def sp_I (z : Int) : Int32 := Int32.ofInt z
theorem sp_nI (n : Nat) : nI n = sp_I n := (Int32.ofInt_eq_ofNat (n := n)).symm
theorem sp_add (x y : Int) : sp_I x + sp_I y = sp_I (x + y) := (Int32.ofInt_add x y).symm
theorem sp_sub (x y : Int) : sp_I x - sp_I y = sp_I (x - y) := (Int32.ofInt_sub x y).symm
theorem sp_mul (x y : Int) : sp_I x * sp_I y = sp_I (x * y) := (Int32.ofInt_mul x y).symm
def sp_B (x : Int) : Prop := -100000 ≤ x ∧ x ≤ 100000
theorem sp_toInt {x : Int} (h : sp_B x) : (sp_I x).toInt = x := by
  obtain ⟨h1, h2⟩ := h
  exact Int32.toInt_ofInt_of_le (by omega) (by omega)
theorem sp_le {x y : Int} (hx : sp_B x) (hy : sp_B y) : sp_I x ≤ sp_I y ↔ x ≤ y := by
  rw [Int32.le_iff_toInt_le, sp_toInt hx, sp_toInt hy]
theorem sp_lt {x y : Int} (hx : sp_B x) (hy : sp_B y) : sp_I x < sp_I y ↔ x < y := by
  rw [Int32.lt_iff_toInt_lt, sp_toInt hx, sp_toInt hy]
theorem sp_eq {x y : Int} (hx : sp_B x) (hy : sp_B y) : sp_I x = sp_I y ↔ x = y := by
  rw [← Int32.toInt_inj, sp_toInt hx, sp_toInt hy]
theorem sp_cle {X Y : Int32} {A B : Prop} (x y : Int) (bx : sp_B x) (by' : sp_B y) (f : x ≤ y → A) (g : y < x → B) (hx : X = sp_I x := by rfl) (hy : Y = sp_I y := by rfl) : (X ≤ Y → A) ∧ (¬ X ≤ Y → B) := by
  subst hx hy
  rw [sp_le bx by']
  exact ⟨f, fun h => g (by omega)⟩
theorem sp_clt {X Y : Int32} {A B : Prop} (x y : Int) (bx : sp_B x) (by' : sp_B y) (f : x < y → A) (g : y ≤ x → B) (hx : X = sp_I x := by rfl) (hy : Y = sp_I y := by rfl) : (X < Y → A) ∧ (¬ X < Y → B) := by
  subst hx hy
  rw [sp_lt bx by']
  exact ⟨f, fun h => g (by omega)⟩
theorem sp_ceq {X Y : Int32} {A B : Prop} (x y : Int) (bx : sp_B x) (by' : sp_B y) (f : x = y → A) (g : x ≠ y → B) (hx : X = sp_I x := by rfl) (hy : Y = sp_I y := by rfl) : (X = Y → A) ∧ (¬ X = Y → B) := by
  subst hx hy
  rw [sp_eq bx by']
  exact ⟨f, g⟩
/-- the distances of n points stand in the array -/
def sp_ok (D : Nat → Nat → Int) (n : Nat) (a1 : Nat → Int32) : Prop := n ≤ 7 ∧ (∀ i j, 0 ≤ D i j ∧ D i j ≤ 60) ∧ ∀ i j, i < n → j < n → a1 (7 * i + j) = sp_I (D i j)
theorem sp_get {post : Int32 → Prop} {c k f r : Int32} {a1 a2 a3 a4 a5 a6 : Nat → Int32} {D : Nat → Nat → Int} {n i j : Nat} (h : sp_ok D n a1) (hi : i < n) (hj : j < n) (H : post (sp_I (D i j))) : wpX_get post (c, k, f, r, a1, a2, a3, a4, a5, a6) (nI i) (nI j) := by
  obtain ⟨hn, _, h⟩ := h
  have e : (7 * nI i + nI j : Int32) = nI (7 * i + j) := by
    rw [show (7 : Int32) = nI 7 from rfl, pk_mul, nI_add]
  unfold wpX_get
  dsimp only
  rw [e, nI_clamp (by omega), h i j hi hj]
  exact ⟨vp_in_nI (by omega) (by omega), H⟩
/-! leastFor and indexOf -/
def sp_lh (D : Nat → Nat → Int) (n a b k : Nat) : Int := D a (k / n) + D b (k % n) - D a b - D (k / n) (k % n)
def sp_ls (D : Nat → Nat → Int) (t : Nat → Bool) (n a b k : Nat) (acc : Int) : Int :=
  if t (k / n) = false ∧ t (k % n) = false then (if acc ≤ sp_lh D n a b k then acc else sp_lh D n a b k) else acc
def sp_lf (D : Nat → Nat → Int) (t : Nat → Bool) (n a b : Nat) : Nat → Int
  | 0 => 1000
  | k + 1 => sp_ls D t n a b k (sp_lf D t n a b k)
theorem sp_lhB {D : Nat → Nat → Int} (h : ∀ i j, 0 ≤ D i j ∧ D i j ≤ 60) (n a b k : Nat) : -120 ≤ sp_lh D n a b k ∧ sp_lh D n a b k ≤ 120 := by
  have h1 := h a (k / n)
  have h2 := h b (k % n)
  have h3 := h a b
  have h4 := h (k / n) (k % n)
  unfold sp_lh
  omega
theorem sp_lfB {D : Nat → Nat → Int} (h : ∀ i j, 0 ≤ D i j ∧ D i j ≤ 60) (t : Nat → Bool) (n a b k : Nat) : -120 ≤ sp_lf D t n a b k ∧ sp_lf D t n a b k ≤ 1000 := by
  induction k with
  | zero => unfold sp_lf; omega
  | succ k ih =>
    have hl := sp_lhB h n a b k
    unfold sp_lf sp_ls
    split
    · split <;> omega
    · exact ih
/-- the bits of a side -/
def sp_bit (s : Int32) (n : Nat) (t : Nat → Bool) : Prop := ∀ i, i < n → ((s >>> (nI i &&& 31)) &&& 1) = (if t i = true then 1 else 0)
theorem sp_bit0 {s : Int32} {n i : Nat} {t : Nat → Bool} (h : sp_bit s n t) (hi : i < n) (e : t i = false) : ((s >>> (nI i &&& 31)) &&& 1) = 0 := by
  rw [h i hi, e]
  rfl
theorem sp_bit1 {s : Int32} {n i : Nat} {t : Nat → Bool} (h : sp_bit s n t) (hi : i < n) (e : t i = true) : ((s >>> (nI i &&& 31)) &&& 1) = 1 := by
  rw [h i hi, e]
  rfl
theorem sp_10 : ¬ (1 : Int32) = 0 := by decide
theorem sp_01 : ¬ (0 : Int32) = 1 := by decide
theorem sp_leastFor {post : Int32 → Prop} {c kn f r : Int32} {a1 a2 a3 a4 a5 a6 : Nat → Int32} {D : Nat → Nat → Int} {n a b : Nat} {s : Int32} {t : Nat → Bool} (h : sp_ok D n a1) (hn : 0 < n) (ha : a < n) (hb : b < n) (ht : sp_bit s n t)
    (H : post (sp_I (sp_lf D t n a b (n * n)))) : wpX_leastFor post (c, kn, f, r, a1, a2, a3, a4, a5, a6) s (nI n) (nI a) (nI b) := by
  have hn7 := h.1
  have hD := h.2.1
  have hnn : n * n ≤ 49 := Nat.mul_le_mul hn7 hn7
  have hn0 : ¬ nI n = 0 := nI_ne0 hn (by omega)
  have G := pk_loop (σ := Int) (fun m k z => wX_leastFor_8 post s (nI n) (nI a) (nI b) c kn f r a1 a2 a3 a4 a5 a6 m (sp_I z) (nI k)) (fun k z => z = sp_lf D t n a b k) (n * n) 0 1000 (by omega) rfl
    (fun m z hz => by
      subst hz
      exact br_t (by rw [pk_mul]; exact nI_le (Nat.le_refl _) (by omega)) H)
    (fun m k z hk hz hw => by
      subst hz
      have hx : k / n < n := Nat.div_lt_of_lt_mul hk
      have hy : k % n < n := Nat.mod_lt _ hn
      refine br_f (by rw [pk_mul]; exact nI_ge hk (by omega)) ⟨hn0, nm_r (pk_div (by omega) hn (by omega)) ⟨hn0, nm_r (pk_rem (by omega) hn (by omega)) ?_⟩⟩
      cases e1 : t (k / n) with
      | true =>
        refine br_f (by rw [sp_bit1 ht hx e1]; exact sp_10) (nm_r (nI_1 k) (hw _ ?_))
        show _ = sp_ls D t n a b k _
        unfold sp_ls
        rw [e1, if_neg (fun z => absurd z.1 (by decide))]
      | false =>
        refine br_t (sp_bit0 ht hx e1) ?_
        cases e2 : t (k % n) with
        | true =>
          refine br_f (by rw [sp_bit1 ht hy e2]; exact sp_10) (nm_r (nI_1 k) (hw _ ?_))
          show _ = sp_ls D t n a b k _
          unfold sp_ls
          rw [e2, if_neg (fun z => absurd z.2 (by decide))]
        | false =>
          refine br_t (sp_bit0 ht hy e2) (sp_get h ha hx (sp_get h hb hy (sp_get h ha hb (sp_get h hx hy ?_))))
          have b1 := sp_lfB hD t n a b k
          have b2 := sp_lhB hD n a b k
          refine nm_r (e' := sp_I (sp_lh D n a b k)) (by rw [sp_add, sp_sub, sp_sub]; rfl) (sp_cle (sp_lf D t n a b k) (sp_lh D n a b k) ⟨by omega, by omega⟩ ⟨by omega, by omega⟩ (fun hc => nm_r (nI_1 k) (hw _ ?_)) (fun hc => nm_r (nI_1 k) (hw _ ?_)))
          · show _ = sp_ls D t n a b k _
            unfold sp_ls
            rw [if_pos ⟨e1, e2⟩, if_pos hc]
          · show _ = sp_ls D t n a b k _
            unfold sp_ls
            rw [if_pos ⟨e1, e2⟩, if_neg (by omega)])
  exact G
def sp_gs (D : Nat → Nat → Int) (t : Nat → Bool) (n k : Nat) (acc : Int) : Int :=
  if k / n ≤ k % n ∧ t (k / n) = true ∧ t (k % n) = true then (if acc ≤ sp_lf D t n (k / n) (k % n) (n * n) then acc else sp_lf D t n (k / n) (k % n) (n * n)) else acc
def sp_ix (D : Nat → Nat → Int) (t : Nat → Bool) (n : Nat) : Nat → Int
  | 0 => 1000
  | k + 1 => sp_gs D t n k (sp_ix D t n k)
theorem sp_ixB {D : Nat → Nat → Int} (h : ∀ i j, 0 ≤ D i j ∧ D i j ≤ 60) (t : Nat → Bool) (n k : Nat) : -120 ≤ sp_ix D t n k ∧ sp_ix D t n k ≤ 1000 := by
  induction k with
  | zero => unfold sp_ix; omega
  | succ k ih =>
    have hl := sp_lfB h t n (k / n) (k % n) (n * n)
    unfold sp_ix sp_gs
    split
    · split <;> omega
    · exact ih
theorem sp_indexOf {post : Int32 → Prop} {c kn f r : Int32} {a1 a2 a3 a4 a5 a6 : Nat → Int32} {D : Nat → Nat → Int} {n : Nat} {s : Int32} {t : Nat → Bool} (h : sp_ok D n a1) (hn : 0 < n) (ht : sp_bit s n t)
    (H : post (sp_I (sp_ix D t n (n * n)))) : wpX_indexOf post (c, kn, f, r, a1, a2, a3, a4, a5, a6) s (nI n) := by
  have hn7 := h.1
  have hD := h.2.1
  have hnn : n * n ≤ 49 := Nat.mul_le_mul hn7 hn7
  have hn0 : ¬ nI n = 0 := nI_ne0 hn (by omega)
  have G := pk_loop (σ := Int) (fun m k z => wX_indexOf_7 post s (nI n) c kn f r a1 a2 a3 a4 a5 a6 m (sp_I z) (nI k)) (fun k z => z = sp_ix D t n k) (n * n) 0 1000 (by omega) rfl
    (fun m z hz => by
      subst hz
      exact br_t (by rw [pk_mul]; exact nI_le (Nat.le_refl _) (by omega)) H)
    (fun m k z hk hz hw => by
      subst hz
      have hx : k / n < n := Nat.div_lt_of_lt_mul hk
      have hy : k % n < n := Nat.mod_lt _ hn
      refine br_f (by rw [pk_mul]; exact nI_ge hk (by omega)) ⟨hn0, nm_r (pk_div (by omega) hn (by omega)) ⟨hn0, nm_r (pk_rem (by omega) hn (by omega)) ?_⟩⟩
      refine pk_lt (k % n) (k / n) (fun hc => nm_r (nI_1 k) (hw _ ?_)) (fun hc => ?_)
      · show _ = sp_gs D t n k _
        unfold sp_gs
        rw [if_neg (fun z => absurd z.1 (by omega))]
      cases e1 : t (k / n) with
      | false =>
        refine br_f (by rw [sp_bit0 ht hx e1]; exact sp_01) (nm_r (nI_1 k) (hw _ ?_))
        show _ = sp_gs D t n k _
        unfold sp_gs
        rw [e1, if_neg (fun z => absurd z.2.1 (by decide))]
      | true =>
        refine br_t (sp_bit1 ht hx e1) ?_
        cases e2 : t (k % n) with
        | false =>
          refine br_f (by rw [sp_bit0 ht hy e2]; exact sp_01) (nm_r (nI_1 k) (hw _ ?_))
          show _ = sp_gs D t n k _
          unfold sp_gs
          rw [e2, if_neg (fun z => absurd z.2.2 (by decide))]
        | true =>
          refine br_t (sp_bit1 ht hy e2) (sp_leastFor h hn hx hy ht ?_)
          have b1 := sp_ixB hD t n k
          have b2 := sp_lfB hD t n (k / n) (k % n) (n * n)
          refine sp_cle (sp_ix D t n k) (sp_lf D t n (k / n) (k % n) (n * n)) ⟨by omega, by omega⟩ ⟨by omega, by omega⟩ (fun hc => nm_r (nI_1 k) (hw _ ?_)) (fun hc => nm_r (nI_1 k) (hw _ ?_))
          · show _ = sp_gs D t n k _
            unfold sp_gs
            rw [if_pos ⟨by omega, e1, e2⟩, if_pos hc]
          · show _ = sp_gs D t n k _
            unfold sp_gs
            rw [if_pos ⟨by omega, e1, e2⟩, if_neg (by omega)])
  exact G
/-! three points -/
def sp_D (a b c : Int) (i j : Nat) : Int := if i = j then 0 else if i + j = 1 then a else if i + j = 2 then b else if i + j = 3 then c else 0
theorem sp_DB {a b c : Int} (ha : 0 ≤ a ∧ a ≤ 60) (hb : 0 ≤ b ∧ b ≤ 60) (hc : 0 ≤ c ∧ c ≤ 60) : ∀ i j, 0 ≤ sp_D a b c i j ∧ sp_D a b c i j ≤ 60 := by
  intro i j
  unfold sp_D
  split
  · omega
  · split
    · omega
    · split
      · omega
      · split <;> omega
def sp_t1 : Nat → Bool
  | 0 => true
  | _ => false
def sp_t3 : Nat → Bool
  | 0 => true
  | 1 => true
  | _ => false
def sp_t5 : Nat → Bool
  | 0 => true
  | 1 => false
  | 2 => true
  | _ => false
theorem sp_b12 : sp_bit 1 2 sp_t1 := fun i hi => co_2 (P := fun i => (((1 : Int32) >>> (nI i &&& 31)) &&& 1) = (if sp_t1 i = true then 1 else 0)) (by decide) (by decide) hi
theorem sp_b13 : sp_bit 1 3 sp_t1 := fun i hi => co_3 (P := fun i => (((1 : Int32) >>> (nI i &&& 31)) &&& 1) = (if sp_t1 i = true then 1 else 0)) (by decide) (by decide) (by decide) hi
theorem sp_b33 : sp_bit 3 3 sp_t3 := fun i hi => co_3 (P := fun i => (((3 : Int32) >>> (nI i &&& 31)) &&& 1) = (if sp_t3 i = true then 1 else 0)) (by decide) (by decide) (by decide) hi
theorem sp_b53 : sp_bit 5 3 sp_t5 := fun i hi => co_3 (P := fun i => (((5 : Int32) >>> (nI i &&& 31)) &&& 1) = (if sp_t5 i = true then 1 else 0)) (by decide) (by decide) (by decide) hi
/-- the law's least of three -/
def sp_m3 (p q r : Int) : Int := if q ≤ p then (if r ≤ q then r else q) else (if r ≤ p then r else p)
theorem sp_i12 {a b c : Int} (ha : 0 ≤ a ∧ a ≤ 60) : sp_ix (sp_D a b c) sp_t1 2 (2 * 2) = 2 * a := by
  simp [sp_ix, sp_gs, sp_lf, sp_ls, sp_lh, sp_D, sp_t1]
  omega
theorem sp_i13 {a b c : Int} (ha : 0 ≤ a ∧ a ≤ 60) (hb : 0 ≤ b ∧ b ≤ 60) (hc : 0 ≤ c ∧ c ≤ 60) : sp_ix (sp_D a b c) sp_t1 3 (3 * 3) = sp_m3 (2 * a) (2 * b) (a + b - c) := by
  simp [sp_ix, sp_gs, sp_lf, sp_ls, sp_lh, sp_D, sp_t1, sp_m3]
  omega
theorem sp_i33 {a b c : Int} (ha : 0 ≤ a ∧ a ≤ 60) (hb : 0 ≤ b ∧ b ≤ 60) (hc : 0 ≤ c ∧ c ≤ 60) : sp_ix (sp_D a b c) sp_t3 3 (3 * 3) = sp_m3 (2 * b) (2 * c) (b + c - a) := by
  simp [sp_ix, sp_gs, sp_lf, sp_ls, sp_lh, sp_D, sp_t3, sp_m3]
  omega
theorem sp_i53 {a b c : Int} (ha : 0 ≤ a ∧ a ≤ 60) (hb : 0 ≤ b ∧ b ≤ 60) (hc : 0 ≤ c ∧ c ≤ 60) : sp_ix (sp_D a b c) sp_t5 3 (3 * 3) = sp_m3 (2 * a) (2 * c) (a + c - b) := by
  simp [sp_ix, sp_gs, sp_lf, sp_ls, sp_lh, sp_D, sp_t5, sp_m3]
  omega
end
section
/-! tryEdge, sortFresh, addPoint, find -/
theorem sp_try {post : St2 → Prop} {c kn f fr' : Int32} {fr n : Nat} {a1 a2 a3 a4 a5 a6 : Nat → Int32} {s s' n' : Int32} {r : Int} {D : Nat → Nat → Int} {t : Nat → Bool}
    (h : sp_ok D n a1) (hn : 0 < n) (ht : sp_bit s n t) (hr : sp_ix D t n (n * n) = r) (hf : fr < 32) (hs : ¬ s = ((1 : Int32) <<< (nI n &&& 31)) - 1) (es : s' = s) (en : n' = nI n) (ef : fr' = nI fr)
    (h0 : r ≤ 0 → post (c, kn, f, nI fr, a1, a2, a3, a4, a5, a6))
    (h1 : 0 < r → post (c, kn, f, nI (fr + 1), a1, a2, a3, upd a4 fr s.toInt8.toInt32, upd a5 fr (sp_I r), a6)) :
    wpX_tryEdge post (c, kn, f, fr', a1, a2, a3, a4, a5, a6) s' n' := by
  subst es en ef hr
  have hB := sp_ixB h.2.1 t n (n * n)
  unfold wpX_tryEdge
  dsimp only
  refine br_f hs (sp_indexOf h hn ht ?_)
  refine sp_cle _ 0 ⟨by omega, by omega⟩ ⟨by decide, by decide⟩ h0 (fun hp => ?_)
  have hin : vp_in (nI fr) 32 := vp_in_nI hf (by decide)
  have hcl : (nI fr).toNatClampNeg = fr := nI_clamp (by omega)
  refine br_f (nI_ge (b := 32) hf (by decide)) ⟨hin, nm_r (by rw [hcl]) ⟨hin, nm_r (by rw [hcl]) (nm_r (nI_1 fr) (h1 hp))⟩⟩
/-! sortFresh -/
def sp_ins (x y : Int32) : Nat → (Nat → Int32) × (Nat → Int32) → (Nat → Int32) × (Nat → Int32)
  | 0, s => (upd s.1 0 (vp_nar .byte x), upd s.2 0 y)
  | m + 1, s => if s.1 m ≤ x then (upd s.1 (m + 1) (vp_nar .byte x), upd s.2 (m + 1) y) else sp_ins x y m (upd s.1 (m + 1) (vp_nar .byte (s.1 m)), upd s.2 (m + 1) (s.2 m))
def sp_srt (p q : Nat → Int32) (s : (Nat → Int32) × (Nat → Int32)) : Nat → (Nat → Int32) × (Nat → Int32)
  | 0 => s
  | k + 1 => sp_ins (p k) (q k) k (sp_srt p q s k)
theorem sp_s75 {post : St2 → Prop} {J : Int32 → Int32 → (Nat → Int32) → (Nat → Int32) → (Nat → Int32) → (Nat → Int32) → (Nat → Int32) → (Nat → Int32) → Prop} {c kn fr : Int32} {k fd m : Nat} {a1 a2 a3 a4 a5 a6 : Nat → Int32} (hk : k < 32) (hm : m < 32)
    (H : J (nI (k + 1)) (nI (fd + 1)) a1 (upd a2 m (vp_nar .byte (a4 k))) (upd a3 m (a5 k)) a4 a5 a6) : wX_sortFresh_75 post J (nI k) (nI m) c kn (nI fd) fr a1 a2 a3 a4 a5 a6 := by
  have i1 : vp_in (nI k) 32 := vp_in_nI hk (by decide)
  have i2 : vp_in (nI m) 32 := vp_in_nI hm (by decide)
  unfold wX_sortFresh_75
  rw [nI_clamp (show k < 2 ^ 31 by omega), nI_clamp (show m < 2 ^ 31 by omega)]
  exact ⟨i1, i2, nm_e ⟨i1, i2, nm_e (nm_r (nI_1 fd) (nm_r (nI_1 k) H))⟩⟩
theorem sp_s20 {post : St2 → Prop} {J : Int32 → Int32 → (Nat → Int32) → (Nat → Int32) → (Nat → Int32) → (Nat → Int32) → (Nat → Int32) → (Nat → Int32) → Prop} {c kn fr : Int32} {k fd : Nat} {a1 a4 a5 a6 : Nat → Int32} (hk : k < 32) :
    ∀ (m : Nat) (a2 a3 : Nat → Int32), m < 32 → J (nI (k + 1)) (nI (fd + 1)) a1 (sp_ins (a4 k) (a5 k) m (a2, a3)).1 (sp_ins (a4 k) (a5 k) m (a2, a3)).2 a4 a5 a6 → ∃ n, wX_sortFresh_20 post J (nI k) c kn (nI fd) fr n (nI m) a1 a2 a3 a4 a5 a6 := by
  intro m
  induction m with
  | zero =>
    intro a2 a3 hm H
    exact ⟨1, br_t (by decide) (sp_s75 hk hm H)⟩
  | succ m ih =>
    intro a2 a3 hm H
    have i1 : vp_in (nI k) 32 := vp_in_nI hk (by decide)
    have i2 : vp_in (nI (m + 1)) 32 := vp_in_nI hm (by decide)
    have i3 : vp_in (nI m) 32 := vp_in_nI (by omega) (by decide)
    have c1 : (nI k).toNatClampNeg = k := nI_clamp (by omega)
    have c2 : (nI m).toNatClampNeg = m := nI_clamp (by omega)
    have c3 : (nI (m + 1)).toNatClampNeg = m + 1 := nI_clamp (by omega)
    by_cases hc : a2 m ≤ a4 k
    · have e : sp_ins (a4 k) (a5 k) (m + 1) (a2, a3) = (upd a2 (m + 1) (vp_nar .byte (a4 k)), upd a3 (m + 1) (a5 k)) := if_pos hc
      rw [e] at H
      refine ⟨1, ?_⟩
      unfold wX_sortFresh_20
      rw [nI_pred, c1, c2]
      exact br_f (nI_nle (by omega) (by omega)) ⟨i3, i1, br_t hc (sp_s75 hk hm H)⟩
    · have e : sp_ins (a4 k) (a5 k) (m + 1) (a2, a3) = sp_ins (a4 k) (a5 k) m (upd a2 (m + 1) (vp_nar .byte (a2 m)), upd a3 (m + 1) (a3 m)) := if_neg hc
      rw [e] at H
      obtain ⟨n, hn⟩ := ih _ _ (by omega) H
      refine ⟨n + 1, ?_⟩
      unfold wX_sortFresh_20
      rw [nI_pred, c1, c2, c3]
      exact br_f (nI_nle (by omega) (by omega)) ⟨i3, i1, br_f hc ⟨i3, i2, nm_e ⟨i3, i2, nm_e (nm_r (pk_m1 m) hn)⟩⟩⟩
theorem sp_sort {post : St2 → Prop} {c kn fd : Int32} {f : Nat} {a1 a2 a3 a4 a5 a6 : Nat → Int32} (hf : f ≤ 32)
    (H : post (c, kn, nI f, nI f, a1, (sp_srt a4 a5 (a2, a3) f).1, (sp_srt a4 a5 (a2, a3) f).2, a4, a5, a6)) : wpX_sortFresh post (c, kn, fd, nI f, a1, a2, a3, a4, a5, a6) := by
  have G := pk_loop (σ := (Nat → Int32) × (Nat → Int32)) (fun n i s => wX_sortFresh_7 post c kn (nI f) n (nI i) (nI i) a1 s.1 s.2 a4 a5 a6) (fun i s => s = sp_srt a4 a5 (a2, a3) i) f 0 (a2, a3) (by omega) rfl
    (fun n s hs => by
      subst hs
      exact br_t (nI_le (Nat.le_refl _) (by omega)) H)
    (fun n i s hi hs hw => by
      subst hs
      exact br_f (nI_ge hi (by omega)) (sp_s20 (by omega) i _ _ (by omega) (hw _ rfl)))
  exact G
theorem sp_n1 : vp_nar .byte 1 = 1 := by rw [vp_nar_byte]; decide
theorem sp_n3 : vp_nar .byte 3 = 3 := by rw [vp_nar_byte]; decide
theorem sp_n5 : vp_nar .byte 5 = 5 := by rw [vp_nar_byte]; decide
/-- the edges found: their sides and their indices stand in the arrays -/
def sp_H (E : List (Int32 × Int)) (a2 a3 : Nat → Int32) : Prop := ∀ k, k < E.length → a2 k = (E.getD k (0, 0)).1 ∧ a3 k = sp_I (E.getD k (0, 0)).2
theorem sp_H0 {a2 a3 : Nat → Int32} : sp_H [] a2 a3 := fun k hk => absurd hk (Nat.not_lt_zero k)
theorem sp_H1 {a2 a3 : Nat → Int32} {s : Int32} {r : Int} (h : a2 0 = s) (h' : a3 0 = sp_I r) : sp_H [(s, r)] a2 a3 := by
  intro k hk
  have : k = 0 := Nat.lt_one_iff.mp hk
  subst this
  exact ⟨h, h'⟩
theorem sp_H2 {a2 a3 : Nat → Int32} {s s1 : Int32} {r r1 : Int} (h : a2 0 = s) (h' : a3 0 = sp_I r) (h1 : a2 1 = s1) (h1' : a3 1 = sp_I r1) : sp_H [(s, r), (s1, r1)] a2 a3 := by
  intro k hk
  exact co_2 (P := fun k => a2 k = ([(s, r), (s1, r1)].getD k (0, 0)).1 ∧ a3 k = sp_I ([(s, r), (s1, r1)].getD k (0, 0)).2) ⟨h, h'⟩ ⟨h1, h1'⟩ hk
theorem sp_H3 {a2 a3 : Nat → Int32} {s s1 s2 : Int32} {r r1 r2 : Int} (h : a2 0 = s) (h' : a3 0 = sp_I r) (h1 : a2 1 = s1) (h1' : a3 1 = sp_I r1) (h2 : a2 2 = s2) (h2' : a3 2 = sp_I r2) : sp_H [(s, r), (s1, r1), (s2, r2)] a2 a3 := by
  intro k hk
  exact co_3 (P := fun k => a2 k = ([(s, r), (s1, r1), (s2, r2)].getD k (0, 0)).1 ∧ a3 k = sp_I ([(s, r), (s1, r1), (s2, r2)].getD k (0, 0)).2) ⟨h, h'⟩ ⟨h1, h1'⟩ ⟨h2, h2'⟩ hk
/-- a side that a byte holds -/
def sp_nb (s : Int32) : Prop := vp_nar .byte s = s ∧ s.toInt8.toInt32 = s
theorem sp_nb1 : sp_nb 1 := ⟨sp_n1, by decide⟩
theorem sp_nb3 : sp_nb 3 := ⟨sp_n3, by decide⟩
theorem sp_nb5 : sp_nb 5 := ⟨sp_n5, by decide⟩
theorem sp_so1 {a2 a3 a4 a5 : Nat → Int32} {s : Int32} {r : Int} (hs : sp_nb s) : sp_H [(s, r)] (sp_srt (upd a4 0 s.toInt8.toInt32) (upd a5 0 (sp_I r)) (a2, a3) 1).1 (sp_srt (upd a4 0 s.toInt8.toInt32) (upd a5 0 (sp_I r)) (a2, a3) 1).2 := by
  rw [hs.2]
  refine sp_H1 ?_ ?_
  · show upd a2 0 (vp_nar .byte s) 0 = s
    rw [pk_us, hs.1]
  · show upd a3 0 (sp_I r) 0 = sp_I r
    rw [pk_us]
theorem sp_so2 {a2 a3 a4 a5 : Nat → Int32} {s s1 : Int32} {r r1 : Int} (hs : sp_nb s) (hs1 : sp_nb s1) (h : s ≤ s1) : sp_H [(s, r), (s1, r1)] (sp_srt (upd (upd a4 0 s.toInt8.toInt32) 1 s1.toInt8.toInt32) (upd (upd a5 0 (sp_I r)) 1 (sp_I r1)) (a2, a3) 2).1 (sp_srt (upd (upd a4 0 s.toInt8.toInt32) 1 s1.toInt8.toInt32) (upd (upd a5 0 (sp_I r)) 1 (sp_I r1)) (a2, a3) 2).2 := by
  rw [hs.2, hs1.2]
  have e : sp_srt (upd (upd a4 0 s) 1 s1) (upd (upd a5 0 (sp_I r)) 1 (sp_I r1)) (a2, a3) 2 = (upd (upd a2 0 s) 1 s1, upd (upd a3 0 (sp_I r)) 1 (sp_I r1)) := by
    simp [sp_srt, sp_ins, upd, hs.1, hs1.1, h]
  rw [e]
  exact sp_H2 rfl rfl rfl rfl
theorem sp_so2' {a2 a3 a4 a5 : Nat → Int32} {s s1 : Int32} {r r1 : Int} (hs : sp_nb s) (hs1 : sp_nb s1) (h : ¬ s ≤ s1) : sp_H [(s1, r1), (s, r)] (sp_srt (upd (upd a4 0 s.toInt8.toInt32) 1 s1.toInt8.toInt32) (upd (upd a5 0 (sp_I r)) 1 (sp_I r1)) (a2, a3) 2).1 (sp_srt (upd (upd a4 0 s.toInt8.toInt32) 1 s1.toInt8.toInt32) (upd (upd a5 0 (sp_I r)) 1 (sp_I r1)) (a2, a3) 2).2 := by
  rw [hs.2, hs1.2]
  have e : sp_srt (upd (upd a4 0 s) 1 s1) (upd (upd a5 0 (sp_I r)) 1 (sp_I r1)) (a2, a3) 2 = (upd (upd (upd a2 0 s) 1 s) 0 s1, upd (upd (upd a3 0 (sp_I r)) 1 (sp_I r)) 0 (sp_I r1)) := by
    simp only [sp_srt, sp_ins]
    simp [upd, hs.1, hs1.1, h]
  rw [e]
  exact sp_H2 rfl rfl rfl rfl
theorem sp_so3 {a2 a3 a4 a5 : Nat → Int32} {s s1 s2 : Int32} {r r1 r2 : Int} (hs : sp_nb s) (hs1 : sp_nb s1) (hs2 : sp_nb s2) (h : ¬ s ≤ s1) (h2 : s ≤ s2) :
    sp_H [(s1, r1), (s, r), (s2, r2)] (sp_srt (upd (upd (upd a4 0 s.toInt8.toInt32) 1 s1.toInt8.toInt32) 2 s2.toInt8.toInt32) (upd (upd (upd a5 0 (sp_I r)) 1 (sp_I r1)) 2 (sp_I r2)) (a2, a3) 3).1 (sp_srt (upd (upd (upd a4 0 s.toInt8.toInt32) 1 s1.toInt8.toInt32) 2 s2.toInt8.toInt32) (upd (upd (upd a5 0 (sp_I r)) 1 (sp_I r1)) 2 (sp_I r2)) (a2, a3) 3).2 := by
  rw [hs.2, hs1.2, hs2.2]
  have e : sp_srt (upd (upd (upd a4 0 s) 1 s1) 2 s2) (upd (upd (upd a5 0 (sp_I r)) 1 (sp_I r1)) 2 (sp_I r2)) (a2, a3) 3 = (upd (upd (upd (upd a2 0 s) 1 s) 0 s1) 2 s2, upd (upd (upd (upd a3 0 (sp_I r)) 1 (sp_I r)) 0 (sp_I r1)) 2 (sp_I r2)) := by
    simp only [sp_srt, sp_ins]
    simp [upd, hs.1, hs1.1, hs2.1, h, h2]
  rw [e]
  exact sp_H3 rfl rfl rfl rfl rfl rfl
/-! addPoint -/
def sp_E2 (a : Int) : List (Int32 × Int) := if 0 < a then [(1, 2 * a)] else []
def sp_E3 (x y z : Int) : List (Int32 × Int) := (if 0 < x then [(1, x)] else []) ++ ((if 0 < z then [(3, z)] else []) ++ (if 0 < y then [(5, y)] else []))
theorem sp_a19e {post : St2 → Prop} {p0 : Int32} {n m f fr : Nat} {c kn : Int32} {a1 a2 a3 a4 a5 a6 : Nat → Int32} (hm : f ≤ m) (hm' : m ≤ 32) (hf : fr ≤ 32) 
    (H : post (c, kn, nI fr, nI fr, a1, (sp_srt a4 a5 (a2, a3) fr).1, (sp_srt a4 a5 (a2, a3) fr).2, a4, a5, a6)) : wX_addPoint_19 post p0 (n + 1) (nI m) c kn (nI f) (nI fr) a1 a2 a3 a4 a5 a6 :=
  br_t (nI_le hm (by omega)) (sp_sort hf H)
theorem sp_add1 {post : St2 → Prop} {cn kn fr : Int32} {a1 a2 a3 a4 a5 a6 : Nat → Int32} {a b c : Int} (h : sp_ok (sp_D a b c) 2 a1) (ha : 0 ≤ a ∧ a ≤ 60)
    (H : ∀ (fr' : Int32) (a2' a3' a4' a5' : Nat → Int32), sp_H (sp_E2 a) a2' a3' → post (cn, kn, nI (sp_E2 a).length, fr', a1, a2', a3', a4', a5', a6)) : wpX_addPoint post (cn, kn, nI 0, fr, a1, a2, a3, a4, a5, a6) 1 := by
  have key : ∀ (E : List (Int32 × Int)), sp_E2 a = E → ∀ (fr' : Int32) (a2' a3' a4' a5' : Nat → Int32), sp_H E a2' a3' → post (cn, kn, nI E.length, fr', a1, a2', a3', a4', a5', a6) := by
    intro E e
    rw [e] at H
    exact H
  unfold wpX_addPoint
  dsimp only
  refine sp_try (fr := 0) (n := 2) h (by decide) sp_b12 (sp_i12 ha) (by decide) (by decide) (by decide) (by decide) rfl (fun hz => ?_) (fun hz => ?_)
  · exact ⟨1, sp_a19e (n := 0) (m := 0) (f := 0) (fr := 0) (by decide) (by decide) (by decide) (key [] (if_neg (by omega)) _ _ _ _ _ sp_H0)⟩
  · exact ⟨1, sp_a19e (n := 0) (m := 0) (f := 0) (fr := 1) (by decide) (by decide) (by decide) (key [(1, 2 * a)] (if_pos (by omega)) _ _ _ _ _ (sp_so1 sp_nb1))⟩
theorem sp_a19x {post : St2 → Prop} {f0 : Nat} {cn kn : Int32} {a1 a2 a3 a4 a5 a6 : Nat → Int32} {a b c x y : Int} (h : sp_ok (sp_D a b c) 3 a1) (ha : 0 ≤ a ∧ a ≤ 60) (hb : 0 ≤ b ∧ b ≤ 60) (hc : 0 ≤ c ∧ c ≤ 60)
    (ex : sp_m3 (2 * a) (2 * b) (a + b - c) = x) (ey : sp_m3 (2 * a) (2 * c) (a + c - b) = y) (hf : f0 ≤ 1) (h2 : a2 0 = 1)
    (H00 : x ≤ 0 → y ≤ 0 → post (cn, kn, nI f0, nI f0, a1, (sp_srt a4 a5 (a2, a3) f0).1, (sp_srt a4 a5 (a2, a3) f0).2, a4, a5, a6))
    (H01 : x ≤ 0 → 0 < y → post (cn, kn, nI (f0 + 1), nI (f0 + 1), a1, (sp_srt (upd a4 f0 (5 : Int32).toInt8.toInt32) (upd a5 f0 (sp_I y)) (a2, a3) (f0 + 1)).1, (sp_srt (upd a4 f0 (5 : Int32).toInt8.toInt32) (upd a5 f0 (sp_I y)) (a2, a3) (f0 + 1)).2, upd a4 f0 (5 : Int32).toInt8.toInt32, upd a5 f0 (sp_I y), a6))
    (H10 : 0 < x → y ≤ 0 → post (cn, kn, nI (f0 + 1), nI (f0 + 1), a1, (sp_srt (upd a4 f0 (1 : Int32).toInt8.toInt32) (upd a5 f0 (sp_I x)) (a2, a3) (f0 + 1)).1, (sp_srt (upd a4 f0 (1 : Int32).toInt8.toInt32) (upd a5 f0 (sp_I x)) (a2, a3) (f0 + 1)).2, upd a4 f0 (1 : Int32).toInt8.toInt32, upd a5 f0 (sp_I x), a6))
    (H11 : 0 < x → 0 < y → post (cn, kn, nI (f0 + 2), nI (f0 + 2), a1, (sp_srt (upd (upd a4 f0 (1 : Int32).toInt8.toInt32) (f0 + 1) (5 : Int32).toInt8.toInt32) (upd (upd a5 f0 (sp_I x)) (f0 + 1) (sp_I y)) (a2, a3) (f0 + 2)).1, (sp_srt (upd (upd a4 f0 (1 : Int32).toInt8.toInt32) (f0 + 1) (5 : Int32).toInt8.toInt32) (upd (upd a5 f0 (sp_I x)) (f0 + 1) (sp_I y)) (a2, a3) (f0 + 2)).2, upd (upd a4 f0 (1 : Int32).toInt8.toInt32) (f0 + 1) (5 : Int32).toInt8.toInt32, upd (upd a5 f0 (sp_I x)) (f0 + 1) (sp_I y), a6)) :
    ∃ n, wX_addPoint_19 post 2 n 0 cn kn (nI 1) (nI f0) a1 a2 a3 a4 a5 a6 := by
  have i0 : vp_in 0 32 := vp_in_nI (n := 0) (by decide) (by decide)
  have e5 : a2 ((0 : Int32).toNatClampNeg) ||| ((1 : Int32) <<< ((2 : Int32) &&& 31)) = 5 := by
    show a2 0 ||| _ = 5
    rw [h2]
    decide
  refine ⟨2, br_f (by decide) ⟨i0, sp_try (fr := f0) (n := 3) h (by decide) sp_b13 ((sp_i13 ha hb hc).trans ex) (by omega) (by decide) h2 (by decide) rfl (fun hx => ?_) (fun hx => ?_)⟩⟩
  · refine ⟨i0, sp_try (fr := f0) (n := 3) h (by decide) sp_b53 ((sp_i53 ha hb hc).trans ey) (by omega) (by decide) e5 (by decide) rfl (fun hy => ?_) (fun hy => ?_)⟩
    · exact nm_r (e' := nI 1) (by decide) (sp_a19e (by decide) (by decide) (by omega) (H00 hx hy))
    · exact nm_r (e' := nI 1) (by decide) (sp_a19e (by decide) (by decide) (by omega) (H01 hx hy))
  · refine ⟨i0, sp_try (fr := f0 + 1) (n := 3) h (by decide) sp_b53 ((sp_i53 ha hb hc).trans ey) (by omega) (by decide) e5 (by decide) rfl (fun hy => ?_) (fun hy => ?_)⟩
    · exact nm_r (e' := nI 1) (by decide) (sp_a19e (by decide) (by decide) (by omega) (H10 hx hy))
    · exact nm_r (e' := nI 1) (by decide) (sp_a19e (by decide) (by decide) (by omega) (H11 hx hy))
theorem sp_add2 {post : St2 → Prop} {cn kn fr : Int32} {a1 a2 a3 a4 a5 a6 : Nat → Int32} {a b c x y z : Int} (h : sp_ok (sp_D a b c) 3 a1) (ha : 0 ≤ a ∧ a ≤ 60) (hb : 0 ≤ b ∧ b ≤ 60) (hc : 0 ≤ c ∧ c ≤ 60)
    (ex : sp_m3 (2 * a) (2 * b) (a + b - c) = x) (ey : sp_m3 (2 * a) (2 * c) (a + c - b) = y) (ez : sp_m3 (2 * b) (2 * c) (b + c - a) = z) (hE : sp_H (sp_E2 a) a2 a3)
    (H : ∀ (fr' : Int32) (a2' a3' a4' a5' : Nat → Int32), sp_H (sp_E3 x y z) a2' a3' → post (cn, kn, nI (sp_E3 x y z).length, fr', a1, a2', a3', a4', a5', a6)) : wpX_addPoint post (cn, kn, nI (sp_E2 a).length, fr, a1, a2, a3, a4, a5, a6) 2 := by
  have key : ∀ (E : List (Int32 × Int)), sp_E3 x y z = E → ∀ (fr' : Int32) (a2' a3' a4' a5' : Nat → Int32), sp_H E a2' a3' → post (cn, kn, nI E.length, fr', a1, a2', a3', a4', a5', a6) := by
    intro E e
    rw [e] at H
    exact H
  by_cases h0 : 0 < a
  · have e2 : sp_E2 a = [(1, 2 * a)] := if_pos h0
    rw [e2] at hE ⊢
    have h2 : a2 0 = 1 := (hE 0 (Nat.zero_lt_one)).1
    unfold wpX_addPoint
    dsimp only
    refine sp_try (fr := 0) (n := 3) h (by decide) sp_b33 ((sp_i33 ha hb hc).trans ez) (by decide) (by decide) (by decide) (by decide) rfl (fun hz => ?_) (fun hz => ?_)
    · refine sp_a19x (f0 := 0) h ha hb hc ex ey (by decide) h2 (fun hx hy => ?_) (fun hx hy => ?_) (fun hx hy => ?_) (fun hx hy => ?_)
      · exact key [] (by unfold sp_E3; rw [if_neg (by omega), if_neg (by omega), if_neg (by omega)]; rfl) _ _ _ _ _ sp_H0
      · exact key [(5, y)] (by unfold sp_E3; rw [if_neg (by omega), if_neg (by omega), if_pos (by omega)]; rfl) _ _ _ _ _ (sp_so1 sp_nb5)
      · exact key [(1, x)] (by unfold sp_E3; rw [if_pos (by omega), if_neg (by omega), if_neg (by omega)]; rfl) _ _ _ _ _ (sp_so1 sp_nb1)
      · exact key [(1, x), (5, y)] (by unfold sp_E3; rw [if_pos (by omega), if_neg (by omega), if_pos (by omega)]; rfl) _ _ _ _ _ (sp_so2 sp_nb1 sp_nb5 (by decide))
    · refine sp_a19x (f0 := 1) h ha hb hc ex ey (by decide) h2 (fun hx hy => ?_) (fun hx hy => ?_) (fun hx hy => ?_) (fun hx hy => ?_)
      · exact key [(3, z)] (by unfold sp_E3; rw [if_neg (by omega), if_pos (by omega), if_neg (by omega)]; rfl) _ _ _ _ _ (sp_so1 sp_nb3)
      · exact key [(3, z), (5, y)] (by unfold sp_E3; rw [if_neg (by omega), if_pos (by omega), if_pos (by omega)]; rfl) _ _ _ _ _ (sp_so2 sp_nb3 sp_nb5 (by decide))
      · exact key [(1, x), (3, z)] (by unfold sp_E3; rw [if_pos (by omega), if_pos (by omega), if_neg (by omega)]; rfl) _ _ _ _ _ (sp_so2' sp_nb3 sp_nb1 (by decide))
      · exact key [(1, x), (3, z), (5, y)] (by unfold sp_E3; rw [if_pos (by omega), if_pos (by omega), if_pos (by omega)]; rfl) _ _ _ _ _ (sp_so3 sp_nb3 sp_nb1 sp_nb5 (by decide) (by decide))
  · have e2 : sp_E2 a = [] := if_neg h0
    rw [e2]
    have hx : x ≤ 0 := by
      rw [← ex]
      unfold sp_m3
      split <;> split <;> omega
    have hy : y ≤ 0 := by
      rw [← ey]
      unfold sp_m3
      split <;> split <;> omega
    unfold wpX_addPoint
    dsimp only
    refine sp_try (fr := 0) (n := 3) h (by decide) sp_b33 ((sp_i33 ha hb hc).trans ez) (by decide) (by decide) (by decide) (by decide) rfl (fun hz => ?_) (fun hz => ?_)
    · exact ⟨1, sp_a19e (n := 0) (m := 0) (f := 0) (fr := 0) (by decide) (by decide) (by decide) (key [] (by unfold sp_E3; rw [if_neg (by omega), if_neg (by omega), if_neg (by omega)]; rfl) _ _ _ _ _ sp_H0)⟩
    · exact ⟨1, sp_a19e (n := 0) (m := 0) (f := 0) (fr := 1) (by decide) (by decide) (by decide) (key [(3, z)] (by unfold sp_E3; rw [if_neg (by omega), if_pos (by omega), if_neg (by omega)]; rfl) _ _ _ _ _ (sp_so1 sp_nb3))⟩
/-! find -/
theorem sp_ok_le {D : Nat → Nat → Int} {n m : Nat} {a1 : Nat → Int32} (h : sp_ok D n a1) (hm : m ≤ n) : sp_ok D m a1 :=
  ⟨Nat.le_trans hm h.1, h.2.1, fun i j hi hj => h.2.2 i j (Nat.lt_of_lt_of_le hi hm) (Nat.lt_of_lt_of_le hj hm)⟩
theorem sp_findK {post : St2 → Prop} {cn fd fr : Int32} {a1 a2 a3 a4 a5 a6 : Nat → Int32} (H : post (cn, 1, fd, fr, a1, a2, a3, a4, a5, a6)) : wpX_find post (cn, 1, fd, fr, a1, a2, a3, a4, a5, a6) :=
  br_f (by decide) H
theorem sp_find1 {post : St2 → Prop} {n : Nat} {fd fr : Int32} {a1 a2 a3 a4 a5 a6 : Nat → Int32} (hn : n ≤ 1) (H : post (nI n, 1, nI 0, fr, a1, a2, a3, a4, a5, a6)) : wpX_find post (nI n, 0, fd, fr, a1, a2, a3, a4, a5, a6) :=
  br_t rfl ⟨1, br_t (nI_le (b := 1) hn (by decide)) H⟩
theorem sp_find2 {post : St2 → Prop} {fd fr : Int32} {a1 a2 a3 a4 a5 a6 : Nat → Int32} {a b c : Int} (h : sp_ok (sp_D a b c) 2 a1) (ha : 0 ≤ a ∧ a ≤ 60)
    (H : ∀ (fr' : Int32) (a2' a3' a4' a5' : Nat → Int32), sp_H (sp_E2 a) a2' a3' → post (nI 2, 1, nI (sp_E2 a).length, fr', a1, a2', a3', a4', a5', a6)) : wpX_find post (nI 2, 0, fd, fr, a1, a2, a3, a4, a5, a6) :=
  br_t rfl ⟨2, br_f (by decide) (sp_add1 h ha (fun fr' a2' a3' a4' a5' hE => nm_r (e' := 2) (by decide) (br_t (by decide) (H fr' a2' a3' a4' a5' hE))))⟩
theorem sp_find3 {post : St2 → Prop} {fd fr : Int32} {a1 a2 a3 a4 a5 a6 : Nat → Int32} {a b c x y z : Int} (h : sp_ok (sp_D a b c) 3 a1) (ha : 0 ≤ a ∧ a ≤ 60) (hb : 0 ≤ b ∧ b ≤ 60) (hc : 0 ≤ c ∧ c ≤ 60)
    (ex : sp_m3 (2 * a) (2 * b) (a + b - c) = x) (ey : sp_m3 (2 * a) (2 * c) (a + c - b) = y) (ez : sp_m3 (2 * b) (2 * c) (b + c - a) = z)
    (H : ∀ (fr' : Int32) (a2' a3' a4' a5' : Nat → Int32), sp_H (sp_E3 x y z) a2' a3' → post (nI 3, 1, nI (sp_E3 x y z).length, fr', a1, a2', a3', a4', a5', a6)) : wpX_find post (nI 3, 0, fd, fr, a1, a2, a3, a4, a5, a6) :=
  br_t rfl ⟨3, br_f (by decide) (sp_add1 (sp_ok_le h (by decide)) ha (fun fr' a2' a3' a4' a5' hE => nm_r (e' := 2) (by decide) (br_f (by decide) (sp_add2 h ha hb hc ex ey ez hE (fun fr'' a2'' a3'' a4'' a5'' hE' => nm_r (e' := 3) (by decide) (br_t (by decide) (H fr'' a2'' a3'' a4'' a5'' hE')))))))⟩
end
section
/-! looking: paths, sums -/
def sp_same (s i j : Int32) : Prop := ((s >>> (i &&& 31)) &&& 1) = ((s >>> (j &&& 31)) &&& 1)
def sp_pa (E : List (Int32 × Int)) (i j : Int32) : Nat → Int
  | 0 => 0
  | k + 1 => if (((E.getD k (0, 0)).1 >>> (i &&& 31)) &&& 1) = (((E.getD k (0, 0)).1 >>> (j &&& 31)) &&& 1) then sp_pa E i j k else sp_pa E i j k + (E.getD k (0, 0)).2
theorem sp_pathOf {post : Int32 → Prop} {cn kn fr : Int32} {a1 a2 a3 a4 a5 a6 : Nat → Int32} {E : List (Int32 × Int)} {i j : Int32} (hE : sp_H E a2 a3) (hl : E.length ≤ 32)
    (H : post (sp_I (sp_pa E i j E.length))) : wpX_pathOf post (cn, kn, nI E.length, fr, a1, a2, a3, a4, a5, a6) i j := by
  have G := pk_loop (σ := Int) (fun n k z => wX_pathOf_5 post i j cn kn (nI E.length) fr a1 a2 a3 a4 a5 a6 n (sp_I z) (nI k)) (fun k z => z = sp_pa E i j k) E.length 0 0 (by omega) rfl
    (fun n z hz => by
      subst hz
      exact br_t (nI_le (Nat.le_refl _) (by omega)) H)
    (fun n k z hk hz hw => by
      subst hz
      have hin : vp_in (nI k) 32 := vp_in_nI (by omega) (by decide)
      have hcl : (nI k).toNatClampNeg = k := nI_clamp (by omega)
      refine br_f (nI_ge hk (by omega)) ?_
      unfold wpX_parts
      dsimp only
      rw [hcl, (hE k hk).1, (hE k hk).2]
      refine ⟨hin, hin, br_c (fun hc => br_t rfl (nm_r (nI_1 k) (hw _ ?_))) (fun hc => br_f sp_10 ⟨hin, nm_r (sp_add _ _) (nm_r (nI_1 k) (hw _ ?_))⟩)⟩
      · show _ = if _ then _ else _
        rw [if_pos hc]
      · show _ = if _ then _ else _
        rw [if_neg hc])
  exact G
def sp_tl (E : List (Int32 × Int)) (D : Nat → Nat → Int) (n : Nat) : Nat → Bool
  | 0 => true
  | k + 1 => sp_tl E D n k && decide (sp_pa E (nI (k / n)) (nI (k % n)) E.length = 2 * D (k / n) (k % n))
def sp_b (t : Bool) : Int32 := if t = true then 1 else 0
theorem sp_treelike {post : Int32 → St2 → Prop} {fr : Int32} {a1 a2 a3 a4 a5 a6 : Nat → Int32} {E : List (Int32 × Int)} {D : Nat → Nat → Int} {n : Nat} (h : sp_ok D n a1) (hE : sp_H E a2 a3) (hl : E.length ≤ 32) (hP : ∀ i j, sp_B (sp_pa E i j E.length))
    (H : post (sp_b (sp_tl E D n (n * n))) (nI n, 1, nI E.length, fr, a1, a2, a3, a4, a5, a6)) : wpX_treelike post (nI n, 1, nI E.length, fr, a1, a2, a3, a4, a5, a6) := by
  have hn7 := h.1
  have hD := h.2.1
  have hnn : n * n ≤ 49 := Nat.mul_le_mul hn7 hn7
  have G := pk_loop (σ := Bool) (fun m k z => wX_treelike_8 post (nI n) 1 (nI E.length) fr a1 a2 a3 a4 a5 a6 m (sp_b z) (nI k)) (fun k z => z = sp_tl E D n k) (n * n) 0 true (by omega) rfl
    (fun m z hz => by
      subst hz
      refine br_t (by rw [pk_mul]; exact nI_le (Nat.le_refl _) (by omega)) ?_
      cases e : sp_tl E D n (n * n) with
      | true =>
        rw [e] at H
        exact br_f sp_10 H
      | false =>
        rw [e] at H
        exact br_t rfl H)
    (fun m k z hk hz hw => by
      have hn : 0 < n := by
        cases n with
        | zero => exact absurd hk (by simp)
        | succ n => omega
      have hn0 : ¬ nI n = 0 := nI_ne0 hn (by omega)
      have hx : k / n < n := Nat.div_lt_of_lt_mul hk
      have hy : k % n < n := Nat.mod_lt _ hn
      have e1 := pk_rem (a := k) (d := n) (by omega) hn (by omega)
      have e2 := pk_div (a := k) (d := n) (by omega) hn (by omega)
      unfold wX_treelike_8
      rw [e1, e2]
      refine br_f (by rw [pk_mul]; exact nI_ge hk (by omega)) ⟨hn0, hn0, sp_pathOf hE hl ?_⟩
      cases hz' : z with
      | false =>
        refine br_t rfl (nm_r (nI_1 k) (hw false ?_))
        show false = (sp_tl E D n k && _)
        rw [← hz, hz']
        rfl
      | true =>
        refine br_f sp_10 ⟨hn0, hn0, sp_get h hx hy ?_⟩
        have b1 := hP (nI (k / n)) (nI (k % n))
        have b2 := hD (k / n) (k % n)
        refine sp_ceq (sp_pa E (nI (k / n)) (nI (k % n)) E.length) (2 * D (k / n) (k % n)) b1 ⟨by omega, by omega⟩ (fun hc => nm_r (nI_1 k) (hw true ?_)) (fun hc => nm_r (nI_1 k) (hw false ?_)) rfl (sp_mul 2 _)
        · show true = (sp_tl E D n k && _)
          rw [← hz, hz', decide_eq_true hc]
          rfl
        · show false = (sp_tl E D n k && _)
          rw [← hz, hz', decide_eq_false hc]
          rfl)
  exact sp_findK G
def sp_sn (E : List (Int32 × Int)) (n : Nat) : Nat → Int
  | 0 => 0
  | k + 1 => if sp_pa E (nI (k / n)) (nI (k % n)) E.length ≤ sp_sn E n k then sp_sn E n k else sp_pa E (nI (k / n)) (nI (k % n)) E.length
theorem sp_snB {E : List (Int32 × Int)} (hP : ∀ i j, sp_B (sp_pa E i j E.length)) (n k : Nat) : sp_B (sp_sn E n k) := by
  induction k with
  | zero => exact (show sp_B 0 from ⟨by decide, by decide⟩)
  | succ k ih =>
    unfold sp_sn
    split
    · exact ih
    · exact hP _ _
theorem sp_span {post : Int32 → St2 → Prop} {fr : Int32} {a1 a2 a3 a4 a5 a6 : Nat → Int32} {E : List (Int32 × Int)} {n : Nat} (hn7 : n ≤ 7) (hE : sp_H E a2 a3) (hl : E.length ≤ 32) (hP : ∀ i j, sp_B (sp_pa E i j E.length))
    (H : post (sp_I (sp_sn E n (n * n))) (nI n, 1, nI E.length, fr, a1, a2, a3, a4, a5, a6)) : wpX_span post (nI n, 1, nI E.length, fr, a1, a2, a3, a4, a5, a6) := by
  have hnn : n * n ≤ 49 := Nat.mul_le_mul hn7 hn7
  have G := pk_loop (σ := Int) (fun m k z => wX_span_8 post (nI n) 1 (nI E.length) fr a1 a2 a3 a4 a5 a6 m (sp_I z) (nI k)) (fun k z => z = sp_sn E n k) (n * n) 0 0 (by omega) rfl
    (fun m z hz => by
      subst hz
      exact br_t (by rw [pk_mul]; exact nI_le (Nat.le_refl _) (by omega)) H)
    (fun m k z hk hz hw => by
      subst hz
      have hn : 0 < n := by
        cases n with
        | zero => exact absurd hk (by simp)
        | succ n => omega
      have hn0 : ¬ nI n = 0 := nI_ne0 hn (by omega)
      have e1 := pk_rem (a := k) (d := n) (by omega) hn (by omega)
      have e2 := pk_div (a := k) (d := n) (by omega) hn (by omega)
      unfold wX_span_8
      rw [e1, e2]
      refine br_f (by rw [pk_mul]; exact nI_ge hk (by omega)) ⟨hn0, hn0, sp_pathOf hE hl ?_⟩
      refine sp_cle _ _ (hP _ _) (sp_snB hP n k) (fun hc => nm_r (nI_1 k) (hw _ ?_)) (fun hc => nm_r (nI_1 k) (hw _ ?_))
      · show _ = if _ then _ else _
        rw [if_pos hc]
      · show _ = if _ then _ else _
        rw [if_neg (by omega)])
  exact sp_findK G
def sp_wt (E : List (Int32 × Int)) : Nat → Int
  | 0 => 0
  | k + 1 => sp_wt E k + (E.getD k (0, 0)).2
theorem sp_weight {post : Int32 → St2 → Prop} {cn fr : Int32} {a1 a2 a3 a4 a5 a6 : Nat → Int32} {E : List (Int32 × Int)} (hE : sp_H E a2 a3) (hl : E.length ≤ 32)
    (H : post (sp_I (sp_wt E E.length)) (cn, 1, nI E.length, fr, a1, a2, a3, a4, a5, a6)) : wpX_weight post (cn, 1, nI E.length, fr, a1, a2, a3, a4, a5, a6) := by
  have G := pk_loop (σ := Int) (fun m k z => wX_weight_8 post cn 1 (nI E.length) fr a1 a2 a3 a4 a5 a6 m (sp_I z) (nI k)) (fun k z => z = sp_wt E k) E.length 0 0 (by omega) rfl
    (fun m z hz => by
      subst hz
      exact br_t (nI_le (Nat.le_refl _) (by omega)) H)
    (fun m k z hk hz hw => by
      subst hz
      have hin : vp_in (nI k) 32 := vp_in_nI (by omega) (by decide)
      have hcl : (nI k).toNatClampNeg = k := nI_clamp (by omega)
      refine br_f (nI_ge hk (by omega)) ⟨hin, nm_r (e' := sp_I (sp_wt E k + (E.getD k (0, 0)).2)) (by rw [hcl, (hE k hk).2, sp_add]) (nm_r (nI_1 k) (hw _ rfl))⟩)
  exact sp_findK G
/-! splits that agree: homes, edges above -/
def sp_be (g : Nat → Int32) (far : Bool) (best : Int32) (q : Nat) : Int32 :=
  if far = true then (if best < 0 then nI q else if (g best.toNatClampNeg &&& (g q ^^^ (-1))) = 0 then nI q else best) else best
def sp_wf (b : Int32) (q : Nat) : Prop := b = -1 ∨ ∃ j : Nat, j < q ∧ b = nI j
theorem sp_wfS {g : Nat → Int32} {far : Bool} {b : Int32} {q : Nat} (h : sp_wf b q) : sp_wf (sp_be g far b q) (q + 1) := by
  have h' : sp_wf b (q + 1) := by
    rcases h with h | ⟨j, hj, e⟩
    · exact Or.inl h
    · exact Or.inr ⟨j, by omega, e⟩
  have hq : sp_wf (nI q) (q + 1) := Or.inr ⟨q, by omega, rfl⟩
  unfold sp_be
  split
  · split
    · exact hq
    · split
      · exact hq
      · exact h'
  · exact h'
theorem sp_h30 {post : Int32 → Prop} {J : Int32 → Int32 → Prop} {x1 b z0 : Int32} {q m : Nat} {far : Bool} {g : Nat → Int32} {cn kn fd fr : Int32} {a1 a2 a3 a4 a5 a6 : Nat → Int32} (hm : m ≤ 32) (hq : q < m) (hg : ∀ k, k < m → a2 k = g k) (hb : sp_wf b q) (hz : z0 = sp_b far)
    (H : J (sp_be g far b q) (nI (q + 1))) : wX_homeOf_30 post J x1 b (nI q) z0 cn kn fd fr a1 a2 a3 a4 a5 a6 := by
  subst hz
  have c1 : (nI q).toNatClampNeg = q := nI_clamp (by omega)
  have i1 : vp_in (nI q) 32 := vp_in_nI (by omega) (by decide)
  unfold wX_homeOf_30
  cases far with
  | false => exact br_t rfl (nm_r (nI_1 q) H)
  | true =>
    refine br_f sp_10 ?_
    rcases hb with hb | ⟨j, hj, hb⟩
    · subst hb
      exact br_t (by decide) (nm_r (nI_1 q) H)
    · subst hb
      have c2 : (nI j).toNatClampNeg = j := nI_clamp (by omega)
      have i2 : vp_in (nI j) 32 := vp_in_nI (by omega) (by decide)
      have hn : ¬ nI j < 0 := nI_pos (by omega)
      rw [c1, c2, hg q hq, hg j (by omega)]
      unfold sp_be at H
      rw [if_pos rfl, if_neg hn, c2] at H
      refine br_f hn ⟨i2, i1, br_c (fun hc => nm_r (nI_1 q) ?_) (fun hc => nm_r (nI_1 q) ?_)⟩
      · rw [if_pos hc] at H
        exact H
      · rw [if_neg hc] at H
        exact H
theorem sp_a40 {post : Int32 → Prop} {J : Int32 → Int32 → Prop} {x1 b z0 : Int32} {q m : Nat} {far : Bool} {g : Nat → Int32} {cn kn fd fr : Int32} {a1 a2 a3 a4 a5 a6 : Nat → Int32} (hm : m ≤ 32) (hq : q < m) (hg : ∀ k, k < m → a2 k = g k) (hb : sp_wf b q) (hz : z0 = sp_b far)
    (H : J (sp_be g far b q) (nI (q + 1))) : wX_above_40 post J x1 b (nI q) z0 cn kn fd fr a1 a2 a3 a4 a5 a6 := by
  subst hz
  have c1 : (nI q).toNatClampNeg = q := nI_clamp (by omega)
  have i1 : vp_in (nI q) 32 := vp_in_nI (by omega) (by decide)
  unfold wX_above_40
  cases far with
  | false => exact br_t rfl (nm_r (nI_1 q) H)
  | true =>
    refine br_f sp_10 ?_
    rcases hb with hb | ⟨j, hj, hb⟩
    · subst hb
      exact br_t (by decide) (nm_r (nI_1 q) H)
    · subst hb
      have c2 : (nI j).toNatClampNeg = j := nI_clamp (by omega)
      have i2 : vp_in (nI j) 32 := vp_in_nI (by omega) (by decide)
      have hn : ¬ nI j < 0 := nI_pos (by omega)
      rw [c1, c2, hg q hq, hg j (by omega)]
      unfold sp_be at H
      rw [if_pos rfl, if_neg hn, c2] at H
      refine br_f hn ⟨i2, i1, br_c (fun hc => nm_r (nI_1 q) ?_) (fun hc => nm_r (nI_1 q) ?_)⟩
      · rw [if_pos hc] at H
        exact H
      · rw [if_neg hc] at H
        exact H
def sp_ho (g : Nat → Int32) (i : Int32) : Nat → Int32
  | 0 => -1
  | q + 1 => sp_be g (decide (((g q >>> (i &&& 31)) &&& 1) = 0)) (sp_ho g i q) q
theorem sp_hoW (g : Nat → Int32) (i : Int32) (q : Nat) : sp_wf (sp_ho g i q) q := by
  induction q with
  | zero => exact Or.inl rfl
  | succ q ih => exact sp_wfS ih
theorem sp_homeOf {post : Int32 → Prop} {i : Int32} {m : Nat} {g : Nat → Int32} {cn kn fr : Int32} {a1 a2 a3 a4 a5 a6 : Nat → Int32} (hm : m ≤ 32) (hg : ∀ k, k < m → a2 k = g k) (H : post (sp_ho g i m)) : wpX_homeOf post (cn, kn, nI m, fr, a1, a2, a3, a4, a5, a6) i := by
  have G := pk_loop (σ := Int32) (fun n q z => wX_homeOf_4 post i cn kn (nI m) fr a1 a2 a3 a4 a5 a6 n z (nI q)) (fun q z => z = sp_ho g i q) m 0 (-1) (by omega) rfl
    (fun n z hz => by
      subst hz
      exact br_t (nI_le (Nat.le_refl _) (by omega)) H)
    (fun n q z hq hz hw => by
      subst hz
      have c1 : (nI q).toNatClampNeg = q := nI_clamp (by omega)
      have i1 : vp_in (nI q) 32 := vp_in_nI (by omega) (by decide)
      have hwq := sp_hoW g i q
      refine br_f (nI_ge hq (by omega)) ⟨i1, ?_⟩
      rw [c1, hg q hq]
      refine br_c (fun hc => sp_h30 (far := true) hm hq hg hwq rfl (hw _ ?_)) (fun hc => sp_h30 (far := false) hm hq hg hwq rfl (hw _ ?_))
      · show _ = sp_be g (decide _) _ q
        rw [decide_eq_true hc]
      · show _ = sp_be g (decide _) _ q
        rw [decide_eq_false hc])
  exact G
def sp_ab (g : Nat → Int32) (k : Nat) : Nat → Int32
  | 0 => -1
  | q + 1 => sp_be g (decide (q ≠ k) && decide ((g q &&& (g k ^^^ (-1))) = 0)) (sp_ab g k q) q
theorem sp_abW (g : Nat → Int32) (k q : Nat) : sp_wf (sp_ab g k q) q := by
  induction q with
  | zero => exact Or.inl rfl
  | succ q ih => exact sp_wfS ih
theorem sp_above {post : Int32 → Prop} {k m : Nat} {g : Nat → Int32} {cn kn fr : Int32} {a1 a2 a3 a4 a5 a6 : Nat → Int32} (hm : m ≤ 32) (hk : k < m) (hg : ∀ k, k < m → a2 k = g k) (H : post (sp_ab g k m)) : wpX_above post (cn, kn, nI m, fr, a1, a2, a3, a4, a5, a6) (nI k) := by
  have G := pk_loop (σ := Int32) (fun n q z => wX_above_4 post (nI k) cn kn (nI m) fr a1 a2 a3 a4 a5 a6 n z (nI q)) (fun q z => z = sp_ab g k q) m 0 (-1) (by omega) rfl
    (fun n z hz => by
      subst hz
      exact br_t (nI_le (Nat.le_refl _) (by omega)) H)
    (fun n q z hq hz hw => by
      subst hz
      have c1 : (nI q).toNatClampNeg = q := nI_clamp (by omega)
      have i1 : vp_in (nI q) 32 := vp_in_nI (by omega) (by decide)
      have c2 : (nI k).toNatClampNeg = k := nI_clamp (by omega)
      have i2 : vp_in (nI k) 32 := vp_in_nI (by omega) (by decide)
      have hwq := sp_abW g k q
      refine br_f (nI_ge hq (by omega)) (pk_eq q k (fun e => ?_) (fun e => ⟨i1, i2, ?_⟩))
      · refine sp_a40 (far := false) hm hq hg hwq rfl (hw _ ?_)
        show _ = sp_be g (decide (q ≠ k) && _) _ q
        rw [decide_eq_false (fun z => z e), Bool.false_and]
      · rw [c1, c2, hg q hq, hg k hk]
        refine br_c (fun hc => sp_a40 (far := true) hm hq hg hwq rfl (hw _ ?_)) (fun hc => sp_a40 (far := false) hm hq hg hwq rfl (hw _ ?_))
        · show _ = sp_be g (decide (q ≠ k) && decide _) _ q
          rw [decide_eq_true e, decide_eq_true hc]
          rfl
        · show _ = sp_be g (decide (q ≠ k) && decide _) _ q
          rw [decide_eq_false hc, Bool.and_false])
  exact G
end
section
/-! partsAt, pointsAt, agreeing -/
def sp_p1 (g : Nat → Int32) (m : Nat) (k n0 : Int32) : Nat → Int32
  | 0 => n0
  | q + 1 => if sp_ab g q m = k then sp_p1 g m k n0 q + 1 else sp_p1 g m k n0 q
def sp_p2 (g : Nat → Int32) (m : Nat) (k n0 : Int32) : Nat → Int32
  | 0 => n0
  | i + 1 => if sp_ho g (nI i) m = k then sp_p2 g m k n0 i + 1 else sp_p2 g m k n0 i
theorem sp_pa49 {post : Int32 → Prop} {k n0 : Int32} {m n : Nat} {g : Nat → Int32} {kn fr : Int32} {a1 a2 a3 a4 a5 a6 : Nat → Int32} (hm : m ≤ 32) (hn : n ≤ 7) (hg : ∀ k, k < m → a2 k = g k) (H : post (sp_p2 g m k n0 n)) :
    ∃ fu, wX_partsAt_49 post k (nI n) kn (nI m) fr a1 a2 a3 a4 a5 a6 fu n0 0 :=
  pk_loop (σ := Int32) (fun w i z => wX_partsAt_49 post k (nI n) kn (nI m) fr a1 a2 a3 a4 a5 a6 w z (nI i)) (fun i z => z = sp_p2 g m k n0 i) n 0 n0 (by omega) rfl
    (fun w z hz => by
      subst hz
      exact br_t (nI_le (Nat.le_refl _) (by omega)) H)
    (fun w i z hi hz hw => by
      subst hz
      refine br_f (nI_ge hi (by omega)) (sp_homeOf hm hg (br_c (fun hc => nm_e (nm_r (nI_1 i) (hw _ ?_))) (fun hc => nm_r (nI_1 i) (hw _ ?_))))
      · show _ = if _ then _ else _
        rw [if_pos hc]
      · show _ = if _ then _ else _
        rw [if_neg hc])
theorem sp_pointsAt {post : Int32 → Prop} {k : Int32} {m n : Nat} {g : Nat → Int32} {kn fr : Int32} {a1 a2 a3 a4 a5 a6 : Nat → Int32} (hm : m ≤ 32) (hn : n ≤ 7) (hg : ∀ k, k < m → a2 k = g k) (H : post (sp_p2 g m k 0 n)) :
    wpX_pointsAt post (nI n, kn, nI m, fr, a1, a2, a3, a4, a5, a6) k :=
  pk_loop (σ := Int32) (fun w i z => wX_pointsAt_4 post k (nI n) kn (nI m) fr a1 a2 a3 a4 a5 a6 w z (nI i)) (fun i z => z = sp_p2 g m k 0 i) n 0 0 (by omega) rfl
    (fun w z hz => by
      subst hz
      exact br_t (nI_le (Nat.le_refl _) (by omega)) H)
    (fun w i z hi hz hw => by
      subst hz
      refine br_f (nI_ge hi (by omega)) (sp_homeOf hm hg (br_c (fun hc => nm_e (nm_r (nI_1 i) (hw _ ?_))) (fun hc => nm_r (nI_1 i) (hw _ ?_))))
      · show _ = if _ then _ else _
        rw [if_pos hc]
      · show _ = if _ then _ else _
        rw [if_neg hc])
theorem sp_pa12 {post : Int32 → Prop} {k n0 : Int32} {m n : Nat} {g : Nat → Int32} {kn fr : Int32} {a1 a2 a3 a4 a5 a6 : Nat → Int32} (hm : m ≤ 32) (hn : n ≤ 7) (hg : ∀ k, k < m → a2 k = g k) (H : post (sp_p2 g m k (sp_p1 g m k n0 m) n)) :
    ∃ fu, wX_partsAt_12 post k (nI n) kn (nI m) fr a1 a2 a3 a4 a5 a6 fu n0 0 :=
  pk_loop (σ := Int32) (fun w q z => wX_partsAt_12 post k (nI n) kn (nI m) fr a1 a2 a3 a4 a5 a6 w z (nI q)) (fun q z => z = sp_p1 g m k n0 q) m 0 n0 (by omega) rfl
    (fun w z hz => by
      subst hz
      exact br_t (nI_le (Nat.le_refl _) (by omega)) (sp_pa49 hm hn hg H))
    (fun w q z hq hz hw => by
      subst hz
      refine br_f (nI_ge hq (by omega)) (sp_above hm hq hg (br_c (fun hc => nm_e (nm_r (nI_1 q) (hw _ ?_))) (fun hc => nm_r (nI_1 q) (hw _ ?_))))
      · show _ = if _ then _ else _
        rw [if_pos hc]
      · show _ = if _ then _ else _
        rw [if_neg hc])
def sp_pp (g : Nat → Int32) (m n : Nat) (k : Int32) : Int32 := sp_p2 g m k (sp_p1 g m k (if 0 ≤ k then 1 else 0) m) n
theorem sp_partsAt {post : Int32 → Prop} {k : Int32} {m n : Nat} {g : Nat → Int32} {kn fr : Int32} {a1 a2 a3 a4 a5 a6 : Nat → Int32} (hm : m ≤ 32) (hn : n ≤ 7) (hg : ∀ k, k < m → a2 k = g k) (H : post (sp_pp g m n k)) :
    wpX_partsAt post (nI n, kn, nI m, fr, a1, a2, a3, a4, a5, a6) k := by
  unfold sp_pp at H
  refine br_c (fun hc => ?_) (fun hc => ?_)
  · rw [if_pos hc] at H
    exact sp_pa12 hm hn hg H
  · rw [if_neg hc] at H
    exact sp_pa12 hm hn hg H
def sp_as (r p sum : Int32) : Int32 := if r ≤ 1 then sum else ((sum + ((1 : Int32) <<< ((r - 1) &&& 31))) - 1) - (if r = 2 then (if r - p ≤ 1 then r - p else 1) else r - p)
def sp_ag (g : Nat → Int32) (m n : Nat) : Nat → Int32
  | 0 => nI m
  | j + 1 => sp_as (sp_pp g m n (sp_I ((j : Int) - 1))) (sp_p2 g m (sp_I ((j : Int) - 1)) 0 n) (sp_ag g m n j)
theorem sp_g51 {post : Int32 → St2 → Prop} {J : Int32 → Int32 → Prop} {s r z0 : Int32} {j : Nat} {cn kn fd fr : Int32} {a1 a2 a3 a4 a5 a6 : Nat → Int32}
    (H : J (if r ≤ 1 then s else ((s + ((1 : Int32) <<< ((r - 1) &&& 31))) - 1) - z0) (sp_I (((j + 1 : Nat) : Int) - 1))) : wX_agreeing_51 post J s (sp_I ((j : Int) - 1)) r z0 cn kn fd fr a1 a2 a3 a4 a5 a6 := by
  have e : sp_I ((j : Int) - 1) + 1 = sp_I (((j + 1 : Nat) : Int) - 1) := by
    rw [show (1 : Int32) = sp_I 1 from rfl, sp_add]
    exact congrArg sp_I (by omega)
  unfold wX_agreeing_51
  refine br_c (fun hc => nm_r e ?_) (fun hc => nm_e (nm_r e ?_))
  · rw [if_pos hc] at H
    exact H
  · rw [if_neg hc] at H
    exact H
theorem sp_agreeing {post : Int32 → St2 → Prop} {m n : Nat} {g : Nat → Int32} {fr : Int32} {a1 a2 a3 a4 a5 a6 : Nat → Int32} (hm : m ≤ 32) (hn : n ≤ 7) (hg : ∀ k, k < m → a2 k = g k)
    (H : post (sp_ag g m n (m + 1)) (nI n, 1, nI m, fr, a1, a2, a3, a4, a5, a6)) : wpX_agreeing post (nI n, 1, nI m, fr, a1, a2, a3, a4, a5, a6) := by
  have G := pk_loop (σ := Int32) (fun w j z => wX_agreeing_11 post (nI n) 1 (nI m) fr a1 a2 a3 a4 a5 a6 w z (sp_I ((j : Int) - 1))) (fun j z => z = sp_ag g m n j) (m + 1) 0 (nI m) (by omega) rfl
    (fun w z hz => by
      subst hz
      refine br_t ?_ H
      rw [sp_nI, sp_le ⟨by omega, by omega⟩ ⟨by omega, by omega⟩]
      omega)
    (fun w j z hj hz hw => by
      subst hz
      refine br_f ?_ (sp_partsAt hm hn hg (sp_pointsAt hm hn hg (nm_e ?_)))
      · rw [sp_nI, sp_le ⟨by omega, by omega⟩ ⟨by omega, by omega⟩]
        omega
      have H' := hw _ rfl
      rw [show sp_ag g m n (j + 1) = sp_as (sp_pp g m n (sp_I ((j : Int) - 1))) (sp_p2 g m (sp_I ((j : Int) - 1)) 0 n) (sp_ag g m n j) from rfl] at H'
      unfold sp_as at H'
      refine br_c (fun h2 => ?_) (fun h2 => ?_)
      · rw [if_pos h2] at H'
        refine br_c (fun h3 => ?_) (fun h3 => ?_)
        · rw [if_pos h3] at H'
          exact sp_g51 H'
        · rw [if_neg h3] at H'
          exact sp_g51 H'
      · rw [if_neg h2] at H'
        exact sp_g51 H')
  exact sp_findK G
/-! the acts on points -/
theorem sp_byte : ∀ d, d < 61 → (nI d).toInt8.toInt32 = nI d := by decide +kernel
theorem sp_put {post : St2 → Prop} {cn kn fd fr : Int32} {a1 a2 a3 a4 a5 a6 : Nat → Int32} {i j d : Nat} (hi : i < 7) (hj : j < 7) (hd : d < 61)
    (H : post (cn, 0, fd, fr, upd (upd a1 (7 * i + j) (nI d)) (7 * j + i) (nI d), a2, a3, a4, a5, a6)) : wpX_put post (cn, kn, fd, fr, a1, a2, a3, a4, a5, a6) (nI i) (nI j) (nI d) := by
  have e1 : (7 * nI i + nI j : Int32) = nI (7 * i + j) := by
    rw [show (7 : Int32) = nI 7 from rfl, pk_mul, nI_add]
  have e2 : (7 * nI j + nI i : Int32) = nI (7 * j + i) := by
    rw [show (7 : Int32) = nI 7 from rfl, pk_mul, nI_add]
  unfold wpX_put
  dsimp only
  rw [e1, e2, nI_clamp (by omega), nI_clamp (by omega), sp_byte d hd]
  exact ⟨vp_in_nI (by omega) (by decide), nm_e ⟨vp_in_nI (by omega) (by decide), nm_e H⟩⟩
theorem sp_point_bad {post : Int32 → St2 → Prop} {u : St2} {d : Int32} (h : d < 0 ∨ ¬ d ≤ 60) (H : post (-1000) u) : wpX_point post u d := by
  obtain ⟨cn, kn, fd, fr, a1, a2, a3, a4, a5, a6⟩ := u
  by_cases h0 : d < 0
  · exact br_t h0 H
  · exact br_f h0 (br_f (h.resolve_left h0) H)
theorem sp_point {post : Int32 → St2 → Prop} {kn fd fr : Int32} {a1 a2 a3 a4 a5 a6 : Nat → Int32} {D D' : Nat → Nat → Int} {n d : Nat} (hn : n < 7) (hd : d < 61) (h : sp_ok D n a1) (hD : ∀ i j, 0 ≤ D' i j ∧ D' i j ≤ 60)
    (e1 : ∀ i j, i < n → j < n → D' i j = D i j) (e2 : D' n n = 0) (e3 : ∀ i, i < n → D' i n = d ∧ D' n i = d)
    (H : ∀ a1', sp_ok D' (n + 1) a1' → post (nI n) (nI (n + 1), 0, fd, fr, a1', a2, a3, a4, a5, a6)) : wpX_point post (nI n, kn, fd, fr, a1, a2, a3, a4, a5, a6) (nI d) := by
  have e8 : (8 * nI n : Int32) = nI (8 * n) := by
    rw [show (8 : Int32) = nI 8 from rfl, pk_mul]
  have G := pk_loop (σ := Int32 × (Nat → Int32)) (fun w i s => wX_point_42 post (nI d) w (nI i) (nI n) s.1 fd fr s.2 a2 a3 a4 a5 a6)
    (fun i s => s.2 (8 * n) = 0 ∧ (∀ p q, p < n → q < n → s.2 (7 * p + q) = a1 (7 * p + q)) ∧ ∀ p, p < i → s.2 (7 * p + n) = nI d ∧ s.2 (7 * n + p) = nI d) n 0 (kn, upd a1 (8 * n) 0) (by omega)
    ⟨pk_us, fun p q hp hq => pk_un (by omega), fun p hp => absurd hp (by omega)⟩
    (fun w s hs => by
      obtain ⟨s1, s2⟩ := s
      obtain ⟨h1, h2, h3⟩ := hs
      refine br_t (nI_le (Nat.le_refl _) (by omega)) (nm_r (nI_1 n) ?_)
      rw [nI_pred]
      refine H s2 ⟨by omega, hD, fun i j hi hj => ?_⟩
      by_cases ei : i = n
      · by_cases ej : j = n
        · subst ei ej
          rw [e2, show 7 * j + j = 8 * j by omega]
          exact h1
        · subst ei
          rw [(e3 j (by omega)).2, ← sp_nI]
          exact (h3 j (by omega)).2
      · by_cases ej : j = n
        · subst ej
          rw [(e3 i (by omega)).1, ← sp_nI]
          exact (h3 i (by omega)).1
        · rw [e1 i j (by omega) (by omega), ← h.2.2 i j (by omega) (by omega)]
          exact h2 i j (by omega) (by omega))
    (fun w i s hi hs hw => by
      obtain ⟨s1, s2⟩ := s
      obtain ⟨h1, h2, h3⟩ := hs
      refine br_f (nI_ge hi (by omega)) (sp_put (by omega) (by omega) hd (nm_r (nI_1 i) (hw (0, upd (upd s2 (7 * i + n) (nI d)) (7 * n + i) (nI d)) ⟨?_, fun p q hp hq => ?_, fun p hp => ?_⟩)))
      · show upd (upd s2 (7 * i + n) (nI d)) (7 * n + i) (nI d) (8 * n) = 0
        rw [pk_un (by omega), pk_un (by omega)]
        exact h1
      · show upd (upd s2 (7 * i + n) (nI d)) (7 * n + i) (nI d) (7 * p + q) = a1 (7 * p + q)
        rw [pk_un (by omega), pk_un (by omega)]
        exact h2 p q hp hq
      · show upd (upd s2 (7 * i + n) (nI d)) (7 * n + i) (nI d) (7 * p + n) = nI d ∧ upd (upd s2 (7 * i + n) (nI d)) (7 * n + i) (nI d) (7 * n + p) = nI d
        by_cases e : p = i
        · subst e
          exact ⟨by rw [pk_un (by omega), pk_us], pk_us⟩
        · rw [pk_un (by omega), pk_un (by omega), pk_un (by omega), pk_un (by omega)]
          exact h3 p (by omega))
  refine br_f (nI_pos (by omega)) (br_t (nI_le (b := 60) (by omega) (by decide)) (br_f (fun e => absurd ((nI_eq (b := 7) (by omega) (by decide)).mp e) (by omega)) ?_))
  rw [e8, nI_clamp (by omega)]
  exact ⟨vp_in_nI (by omega) (by decide), nm_e G⟩
theorem sp_drop {post : Int32 → St2 → Prop} {kn fd fr : Int32} {a1 a2 a3 a4 a5 a6 : Nat → Int32} {n : Nat} (hn : n < 7) (H : post (nI n) (nI n, 0, fd, fr, a1, a2, a3, a4, a5, a6)) : wpX_drop post (nI (n + 1), kn, fd, fr, a1, a2, a3, a4, a5, a6) :=
  br_f (nI_ne0 (by omega) (by omega)) (nm_r (nI_pred n) H)
theorem sp_miss0 {post : Int32 → Prop} {kn fd fr : Int32} {a1 a2 a3 a4 a5 a6 : Nat → Int32} {n i : Nat} (hn : n ≤ 7) (hi : i < n) (H : post 0) : wpX_missing post (nI n, kn, fd, fr, a1, a2, a3, a4, a5, a6) (nI i) :=
  br_f (nI_pos (by omega)) (br_t (nI_lt hi (by omega)) H)
theorem sp_miss1 {post : Int32 → Prop} {cn kn fd fr : Int32} {a1 a2 a3 a4 a5 a6 : Nat → Int32} {p : Int32} (h : p < 0 ∨ ¬ p < cn) (H : post 1) : wpX_missing post (cn, kn, fd, fr, a1, a2, a3, a4, a5, a6) p := by
  by_cases h0 : p < 0
  · exact br_t h0 H
  · exact br_f h0 (br_f (h.resolve_left h0) H)
theorem sp_distance {post : Int32 → Prop} {kn fd fr : Int32} {a1 a2 a3 a4 a5 a6 : Nat → Int32} {D : Nat → Nat → Int} {n i j : Nat} (h : sp_ok D n a1) (hi : i < n) (hj : j < n) (H : post (sp_I (D i j))) : wpX_distance post (nI n, kn, fd, fr, a1, a2, a3, a4, a5, a6) (nI i) (nI j) := by
  unfold wpX_distance
  dsimp only
  exact sp_miss0 h.1 hi (br_t rfl (sp_miss0 h.1 hj (br_t rfl (sp_get h hi hj H))))
theorem sp_treeDist {post : Int32 → St2 → Prop} {fr : Int32} {a1 a2 a3 a4 a5 a6 : Nat → Int32} {E : List (Int32 × Int)} {n i j : Nat} (hn : n ≤ 7) (hi : i < n) (hj : j < n) (hE : sp_H E a2 a3) (hl : E.length ≤ 32)
    (H : post (sp_I (sp_pa E (nI i) (nI j) E.length)) (nI n, 1, nI E.length, fr, a1, a2, a3, a4, a5, a6)) : wpX_treeDistance post (nI n, 1, nI E.length, fr, a1, a2, a3, a4, a5, a6) (nI i) (nI j) := by
  unfold wpX_treeDistance
  dsimp only
  exact sp_miss0 hn hi (br_t rfl (sp_miss0 hn hj (br_t rfl (sp_findK (sp_pathOf hE hl H)))))
theorem sp_together {post : Int32 → St2 → Prop} {fr : Int32} {a1 a2 a3 a4 a5 a6 : Nat → Int32} {E : List (Int32 × Int)} {n i j : Nat} (hn : n ≤ 7) (hi : i < n) (hj : j < n) (hE : sp_H E a2 a3) (hl : E.length ≤ 32) (hP : sp_B (sp_pa E (nI i) (nI j) E.length))
    (H : post (sp_b (decide (sp_pa E (nI i) (nI j) E.length = 0))) (nI n, 1, nI E.length, fr, a1, a2, a3, a4, a5, a6)) : wpX_together post (nI n, 1, nI E.length, fr, a1, a2, a3, a4, a5, a6) (nI i) (nI j) := by
  unfold wpX_together
  dsimp only
  refine sp_miss0 hn hi (br_t rfl (sp_miss0 hn hj (br_t rfl (sp_findK (sp_pathOf hE hl (sp_ceq _ 0 hP ⟨by decide, by decide⟩ (fun hc => ?_) (fun hc => ?_)))))))
  · rw [decide_eq_true hc] at H
    exact H
  · rw [decide_eq_false hc] at H
    exact H
theorem sp_together_bad {post : Int32 → St2 → Prop} {cn kn fd fr : Int32} {a1 a2 a3 a4 a5 a6 : Nat → Int32} {p q : Int32} (h : p < 0 ∨ ¬ p < cn) (H : post (-1000) (cn, kn, fd, fr, a1, a2, a3, a4, a5, a6)) : wpX_together post (cn, kn, fd, fr, a1, a2, a3, a4, a5, a6) p q := by
  unfold wpX_together
  dsimp only
  exact sp_miss1 h (br_f sp_10 H)
/-! index -/
def sp_bad (n : Int32) (s : Int32) : Prop := n < 2 ∨ s < 1 ∨ (((1 : Int32) <<< (n &&& 31)) - 1) ≤ s ∨ (s &&& 1) = 0
theorem sp_badSplit1 {post : Int32 → Prop} {cn kn fd fr : Int32} {a1 a2 a3 a4 a5 a6 : Nat → Int32} {s : Int32} (h : sp_bad cn s) (H : post 1) : wpX_badSplit post (cn, kn, fd, fr, a1, a2, a3, a4, a5, a6) s := by
  refine br_c (fun _ => H) (fun h1 => br_c (fun _ => H) (fun h2 => br_c (fun _ => H) (fun h3 => br_c (fun _ => H) (fun h4 => ?_))))
  rcases h with h | h | h | h
  · exact absurd h h1
  · exact absurd h h2
  · exact absurd h h3
  · exact absurd h h4
theorem sp_badSplit0 {post : Int32 → Prop} {cn kn fd fr : Int32} {a1 a2 a3 a4 a5 a6 : Nat → Int32} {s : Int32} (h : ¬ sp_bad cn s) (H : post 0) : wpX_badSplit post (cn, kn, fd, fr, a1, a2, a3, a4, a5, a6) s := by
  refine br_f (fun z => h (Or.inl z)) (br_f (fun z => h (Or.inr (Or.inl z))) (br_f (fun z => h (Or.inr (Or.inr (Or.inl z)))) (br_f (fun z => h (Or.inr (Or.inr (Or.inr z)))) H)))
theorem sp_index_bad {post : Int32 → Prop} {cn kn fd fr : Int32} {a1 a2 a3 a4 a5 a6 : Nat → Int32} {s : Int32} (h : sp_bad cn s) (H : post (-1000)) : wpX_index post (cn, kn, fd, fr, a1, a2, a3, a4, a5, a6) s := by
  unfold wpX_index
  dsimp only
  exact sp_badSplit1 h (br_f sp_10 H)
theorem sp_index {post : Int32 → Prop} {kn fd fr : Int32} {a1 a2 a3 a4 a5 a6 : Nat → Int32} {D : Nat → Nat → Int} {n : Nat} {s : Int32} {t : Nat → Bool} {r : Int} (h : sp_ok D n a1) (hn : 0 < n) (ht : sp_bit s n t) (hb : ¬ sp_bad (nI n) s) (hr : sp_ix D t n (n * n) = r)
    (H : post (sp_I r)) : wpX_index post (nI n, kn, fd, fr, a1, a2, a3, a4, a5, a6) s := by
  subst hr
  unfold wpX_index
  dsimp only
  exact sp_badSplit0 hb (br_t rfl (sp_indexOf h hn ht H))
end
section
/-! the plain law: what the edges of two and of three points answer -/
def sp_u (x : Int) : Int := if 0 < x then x else 0
def sp_cn (x : Int) : Nat := if 0 < x then 1 else 0
def sp_sd (E : List (Int32 × Int)) (k : Nat) : Int32 := (E.map Prod.fst).getD k 0
theorem sp_sides {E : List (Int32 × Int)} {a2 a3 : Nat → Int32} (h : sp_H E a2 a3) : ∀ k, k < E.length → a2 k = sp_sd E k := by
  intro k hk
  rw [(h k hk).1]
  unfold sp_sd
  induction E generalizing k with
  | nil => rfl
  | cons e E ih =>
    cases k with
    | zero => rfl
    | succ k => 
      show (E.getD k (0, 0)).1 = (E.map Prod.fst).getD k 0
      simp [List.getD]
      cases E[k]? <;> rfl
theorem sp_u0 {x : Int} (h : x ≤ 0) : sp_u x = 0 := if_neg (by omega)
theorem sp_u1 {x : Int} (h : 0 < x) : sp_u x = x := if_pos h
theorem sp_c0 {x : Int} (h : x ≤ 0) : sp_cn x = 0 := if_neg (by omega)
theorem sp_c1 {x : Int} (h : 0 < x) : sp_cn x = 1 := if_pos h
theorem sp_len2 (a : Int) : (sp_E2 a).length = sp_cn a := by
  unfold sp_E2 sp_cn
  split <;> rfl
theorem sp_len3 (x y z : Int) : (sp_E3 x y z).length = sp_cn x + sp_cn y + sp_cn z := by
  unfold sp_E3 sp_cn
  split <;> split <;> split <;> rfl
theorem sp_lenB3 (x y z : Int) : (sp_E3 x y z).length ≤ 32 := by
  rw [sp_len3]
  unfold sp_cn
  split <;> split <;> split <;> omega
theorem sp_lenB2 (a : Int) : (sp_E2 a).length ≤ 32 := by
  rw [sp_len2]
  unfold sp_cn
  split <;> omega
theorem sp_wt3 (x y z : Int) : sp_wt (sp_E3 x y z) (sp_E3 x y z).length = sp_u x + sp_u y + sp_u z := by
  unfold sp_E3 sp_u
  split <;> split <;> split <;> simp [sp_wt] <;> omega
theorem sp_wt2 {a : Int} (ha : 0 ≤ a) : sp_wt (sp_E2 a) (sp_E2 a).length = 2 * a := by
  unfold sp_E2
  split <;> simp [sp_wt] <;> omega
def sp_df (t : Nat → Bool) (i j : Nat) (v : Int) : Int := if t i = t j then 0 else v
theorem sp_bitE {s : Int32} {n i j : Nat} {t : Nat → Bool} (h : sp_bit s n t) (hi : i < n) (hj : j < n) : (((s >>> (nI i &&& 31)) &&& 1) = ((s >>> (nI j &&& 31)) &&& 1)) ↔ t i = t j := by
  rw [h i hi, h j hj]
  cases t i <;> cases t j <;> decide
theorem sp_pa2 {a : Int} (ha : 0 ≤ a) {i j : Nat} (hi : i < 2) (hj : j < 2) : sp_pa (sp_E2 a) (nI i) (nI j) (sp_E2 a).length = sp_df sp_t1 i j (2 * a) := by
  have e1 := sp_bitE sp_b12 hi hj
  unfold sp_E2 sp_df
  split
  · simp [sp_pa, e1]
  · simp [sp_pa]
    omega
theorem sp_pa3 {x y z : Int} {i j : Nat} (hi : i < 3) (hj : j < 3) : sp_pa (sp_E3 x y z) (nI i) (nI j) (sp_E3 x y z).length = sp_df sp_t1 i j (sp_u x) + sp_df sp_t5 i j (sp_u y) + sp_df sp_t3 i j (sp_u z) := by
  have e1 := sp_bitE sp_b13 hi hj
  have e3 := sp_bitE sp_b33 hi hj
  have e5 := sp_bitE sp_b53 hi hj
  unfold sp_E3 sp_df sp_u
  split <;> split <;> split <;> simp [sp_pa, e1, e3, e5] <;> (repeat' split) <;> omega
theorem sp_paB2 {a : Int} (ha : 0 ≤ a ∧ a ≤ 60) (i j : Int32) : sp_B (sp_pa (sp_E2 a) i j (sp_E2 a).length) := by
  unfold sp_E2 sp_B
  split <;> simp [sp_pa]
  split <;> omega
theorem sp_paB3 {x y z : Int} (hx : x ≤ 120) (hy : y ≤ 120) (hz : z ≤ 120) (i j : Int32) : sp_B (sp_pa (sp_E3 x y z) i j (sp_E3 x y z).length) := by
  unfold sp_E3 sp_B
  split <;> split <;> split <;> simp [sp_pa] <;> (repeat' split) <;> omega
theorem sp_m3B {a b c : Int} (ha : 0 ≤ a ∧ a ≤ 60) (hb : 0 ≤ b ∧ b ≤ 60) (hc : 0 ≤ c ∧ c ≤ 60) : -60 ≤ sp_m3 (2 * a) (2 * b) (a + b - c) ∧ sp_m3 (2 * a) (2 * b) (a + b - c) ≤ 120 := by
  unfold sp_m3
  split <;> split <;> omega
theorem sp_tl2 {a b c : Int} (ha : 0 ≤ a) : sp_tl (sp_E2 a) (sp_D a b c) 2 (2 * 2) = true := by
  simp [sp_tl, sp_pa2 ha, sp_df, sp_t1, sp_D]
theorem sp_sn2 {a : Int} (ha : 0 ≤ a) : sp_sn (sp_E2 a) 2 (2 * 2) = 2 * a := by
  simp [sp_sn, sp_pa2 ha, sp_df, sp_t1]
  omega
theorem sp_m3c (p q r : Int) : sp_m3 p q r ≤ p ∧ sp_m3 p q r ≤ q ∧ sp_m3 p q r ≤ r ∧ (sp_m3 p q r = p ∨ sp_m3 p q r = q ∨ sp_m3 p q r = r) := by
  unfold sp_m3
  split <;> split <;> omega
theorem sp_uc (x : Int) : 0 ≤ sp_u x ∧ x ≤ sp_u x ∧ (sp_u x = 0 ∨ sp_u x = x) := by
  unfold sp_u
  split <;> omega
theorem sp_tl3 {a b c x y z : Int} (ha : 0 ≤ a ∧ a ≤ 60) (hb : 0 ≤ b ∧ b ≤ 60) (hc : 0 ≤ c ∧ c ≤ 60) (ex : sp_m3 (2 * a) (2 * b) (a + b - c) = x) (ey : sp_m3 (2 * a) (2 * c) (a + c - b) = y) (ez : sp_m3 (2 * b) (2 * c) (b + c - a) = z) :
    sp_tl (sp_E3 x y z) (sp_D a b c) 3 (3 * 3) = decide (a ≤ b + c ∧ b ≤ a + c ∧ c ≤ a + b) := by
  simp [sp_tl, sp_pa3, sp_df, sp_t1, sp_t3, sp_t5, sp_D]
  have h1 := sp_m3c (2 * a) (2 * b) (a + b - c)
  have h2 := sp_m3c (2 * a) (2 * c) (a + c - b)
  have h3 := sp_m3c (2 * b) (2 * c) (b + c - a)
  rw [ex] at h1
  rw [ey] at h2
  rw [ez] at h3
  have u1 := sp_uc x
  have u2 := sp_uc y
  have u3 := sp_uc z
  clear ex ey ez
  rw [Bool.eq_iff_iff]
  simp only [Bool.and_eq_true, decide_eq_true_eq]
  generalize sp_u x = ux at *
  generalize sp_u y = uy at *
  generalize sp_u z = uz at *
  omega
theorem sp_agS : ∀ p q r : Bool, sp_ag (fun k => ((if p then [1] else []) ++ ((if q then [3] else []) ++ (if r then [5] else [])) : List Int32).getD k 0) ((if p then [1] else []) ++ ((if q then [3] else []) ++ (if r then [5] else [])) : List Int32).length 3 (((if p then [1] else []) ++ ((if q then [3] else []) ++ (if r then [5] else [])) : List Int32).length + 1) = 3 := by decide +kernel
theorem sp_ag3 (x y z : Int) : sp_ag (sp_sd (sp_E3 x y z)) (sp_E3 x y z).length 3 ((sp_E3 x y z).length + 1) = 3 := by
  unfold sp_E3
  split <;> split <;> split
  · exact sp_agS true true true
  · exact sp_agS true true false
  · exact sp_agS true false true
  · exact sp_agS true false false
  · exact sp_agS false true true
  · exact sp_agS false true false
  · exact sp_agS false false true
  · exact sp_agS false false false
theorem sp_ag2S : ∀ p : Bool, sp_ag (fun k => ((if p then [1] else []) : List Int32).getD k 0) ((if p then [1] else []) : List Int32).length 2 (((if p then [1] else []) : List Int32).length + 1) = 1 := by decide +kernel
theorem sp_ag2 (a : Int) : sp_ag (sp_sd (sp_E2 a)) (sp_E2 a).length 2 ((sp_E2 a).length + 1) = 1 := by
  unfold sp_E2
  split
  · exact sp_ag2S true
  · exact sp_ag2S false
theorem sp_ag0 : sp_ag (sp_sd []) 0 0 1 = 0 := by decide +kernel
theorem sp_ag1 : sp_ag (sp_sd []) 0 1 1 = 0 := by decide +kernel
end
section
/-! the other methods -/
theorem sp_edges0 {post : Int32 → St2 → Prop} {n : Nat} {fd fr : Int32} {a1 a2 a3 a4 a5 a6 : Nat → Int32} (hn : n ≤ 1) (H : post (nI 0) (nI n, 1, nI 0, fr, a1, a2, a3, a4, a5, a6)) : wpX_edges post (nI n, 0, fd, fr, a1, a2, a3, a4, a5, a6) := by
  unfold wpX_edges
  dsimp only
  exact sp_find1 hn H
theorem sp_edges2 {post : Int32 → St2 → Prop} {fd fr : Int32} {a1 a2 a3 a4 a5 a6 : Nat → Int32} {a b c : Int} (h : sp_ok (sp_D a b c) 2 a1) (ha : 0 ≤ a ∧ a ≤ 60)
    (H : ∀ (fr' : Int32) (a2' a3' a4' a5' : Nat → Int32), sp_H (sp_E2 a) a2' a3' → post (nI (sp_E2 a).length) (nI 2, 1, nI (sp_E2 a).length, fr', a1, a2', a3', a4', a5', a6)) : wpX_edges post (nI 2, 0, fd, fr, a1, a2, a3, a4, a5, a6) := by
  unfold wpX_edges
  dsimp only
  exact sp_find2 h ha H
theorem sp_edges3 {post : Int32 → St2 → Prop} {fd fr : Int32} {a1 a2 a3 a4 a5 a6 : Nat → Int32} {a b c x y z : Int} (h : sp_ok (sp_D a b c) 3 a1) (ha : 0 ≤ a ∧ a ≤ 60) (hb : 0 ≤ b ∧ b ≤ 60) (hc : 0 ≤ c ∧ c ≤ 60)
    (ex : sp_m3 (2 * a) (2 * b) (a + b - c) = x) (ey : sp_m3 (2 * a) (2 * c) (a + c - b) = y) (ez : sp_m3 (2 * b) (2 * c) (b + c - a) = z)
    (H : ∀ (fr' : Int32) (a2' a3' a4' a5' : Nat → Int32), sp_H (sp_E3 x y z) a2' a3' → post (nI (sp_E3 x y z).length) (nI 3, 1, nI (sp_E3 x y z).length, fr', a1, a2', a3', a4', a5', a6)) : wpX_edges post (nI 3, 0, fd, fr, a1, a2, a3, a4, a5, a6) := by
  unfold wpX_edges
  dsimp only
  exact sp_find3 h ha hb hc ex ey ez H
theorem sp_edgeI {post : Int32 → St2 → Prop} {n : Nat} {fd fr : Int32} {a1 a2 a3 a4 a5 a6 : Nat → Int32} {p : Int32} (hn : n ≤ 1) (H : post (-1002) (nI n, 1, nI 0, fr, a1, a2, a3, a4, a5, a6)) : wpX_edge post (nI n, 0, fd, fr, a1, a2, a3, a4, a5, a6) p := by
  unfold wpX_edge
  dsimp only
  exact sp_find1 hn (br_c (fun _ => H) (fun h => br_f h H))
theorem sp_edgeN {post : Int32 → St2 → Prop} {cn fd fr : Int32} {a1 a2 a3 a4 a5 a6 : Nat → Int32} {p : Int32} (h : p < 0 ∨ ¬ p < fd) (H : post (-1002) (cn, 1, fd, fr, a1, a2, a3, a4, a5, a6)) : wpX_edge post (cn, 1, fd, fr, a1, a2, a3, a4, a5, a6) p := by
  unfold wpX_edge
  dsimp only
  exact sp_findK (br_c (fun _ => H) (fun h' => br_f (h.resolve_left h') H))
theorem sp_edge {post : Int32 → St2 → Prop} {cn fr : Int32} {a1 a2 a3 a4 a5 a6 : Nat → Int32} {E : List (Int32 × Int)} {k : Nat} (hE : sp_H E a2 a3) (hl : E.length ≤ 32) (hk : k < E.length)
    (H : post (sp_sd E k) (cn, 1, nI E.length, fr, a1, a2, a3, a4, a5, a6)) : wpX_edge post (cn, 1, nI E.length, fr, a1, a2, a3, a4, a5, a6) (nI k) := by
  unfold wpX_edge
  dsimp only
  refine sp_findK (br_f (nI_pos (by omega)) (br_t (nI_lt hk (by omega)) ⟨vp_in_nI (by omega) (by decide), ?_⟩))
  show post (a2 (nI k).toNatClampNeg) (cn, 1, nI E.length, fr, a1, a2, a3, a4, a5, a6)
  rw [nI_clamp (by omega), sp_sides hE k hk]
  exact H
theorem sp_set1 {post : Int32 → St2 → Prop} {cn kn fd fr : Int32} {a1 a2 a3 a4 a5 a6 : Nat → Int32} {p q d : Int32} (h : p < 0 ∨ ¬ p < cn) (H : post (-1000) (cn, kn, fd, fr, a1, a2, a3, a4, a5, a6)) : wpX_set post (cn, kn, fd, fr, a1, a2, a3, a4, a5, a6) p q d := by
  unfold wpX_set
  dsimp only
  exact sp_miss1 h (br_f sp_10 H)
theorem sp_set2 {post : Int32 → St2 → Prop} {kn fd fr : Int32} {a1 a2 a3 a4 a5 a6 : Nat → Int32} {n i : Nat} {q d : Int32} (hn : n ≤ 7) (hi : i < n) (h : q < 0 ∨ ¬ q < nI n) (H : post (-1000) (nI n, kn, fd, fr, a1, a2, a3, a4, a5, a6)) : wpX_set post (nI n, kn, fd, fr, a1, a2, a3, a4, a5, a6) (nI i) q d := by
  unfold wpX_set
  dsimp only
  exact sp_miss0 hn hi (br_t rfl (sp_miss1 h (br_f sp_10 H)))
theorem sp_set3 {post : Int32 → St2 → Prop} {kn fd fr : Int32} {a1 a2 a3 a4 a5 a6 : Nat → Int32} {n i j : Nat} {d : Int32} (hn : n ≤ 7) (hi : i < n) (hj : j < n) (h : i = j ∨ d < 0 ∨ ¬ d ≤ 60) (H : post (-1000) (nI n, kn, fd, fr, a1, a2, a3, a4, a5, a6)) : wpX_set post (nI n, kn, fd, fr, a1, a2, a3, a4, a5, a6) (nI i) (nI j) d := by
  unfold wpX_set
  dsimp only
  refine sp_miss0 hn hi (br_t rfl (sp_miss0 hn hj (br_t rfl (br_c (fun _ => H) (fun h1 => br_c (fun _ => H) (fun h2 => br_f (fun h3 => ?_) H))))))
  rcases h with h | h | h
  · exact h1 (by rw [h])
  · exact h2 h
  · exact h h3
theorem sp_setD {post : Int32 → St2 → Prop} {kn fd fr : Int32} {a1 a2 a3 a4 a5 a6 : Nat → Int32} {a b c' : Int} {c : Nat} (h : sp_ok (sp_D a b c') 3 a1) (ha : 0 ≤ a ∧ a ≤ 60) (hb : 0 ≤ b ∧ b ≤ 60) (hc : c < 61)
    (H : ∀ a1', sp_ok (sp_D a b c) 3 a1' → post (sp_I c') (nI 3, 0, fd, fr, a1', a2, a3, a4, a5, a6)) : wpX_set post (nI 3, kn, fd, fr, a1, a2, a3, a4, a5, a6) (nI 1) (nI 2) (nI c) := by
  unfold wpX_set
  dsimp only
  refine sp_miss0 (by decide) (by decide) (br_t rfl (sp_miss0 (by decide) (by decide) (br_t rfl (br_f (by decide) (br_f (nI_pos (by omega)) (br_t (nI_le (b := 60) (by omega) (by decide)) (sp_get (i := 1) (j := 2) h (by decide) (by decide) (sp_put (by decide) (by decide) hc (H _ ⟨by decide, sp_DB ha hb ⟨by omega, by omega⟩, fun i j hi hj => ?_⟩)))))))))
  have hh := h.2.2 i j hi hj
  show upd (upd a1 (7 * 1 + 2) (nI c)) (7 * 2 + 1) (nI c) (7 * i + j) = sp_I (sp_D a b c i j)
  by_cases e1 : 7 * i + j = 7 * 2 + 1
  · have ei : i = 2 := by omega
    have ej : j = 1 := by omega
    subst ei ej
    rw [pk_us, sp_nI]
    rfl
  · rw [pk_un e1]
    by_cases e2 : 7 * i + j = 7 * 1 + 2
    · have ei : i = 1 := by omega
      have ej : j = 2 := by omega
      subst ei ej
      rw [pk_us, sp_nI]
      rfl
    · rw [pk_un e2, hh]
      refine congrArg sp_I ?_
      unfold sp_D
      by_cases e3 : i = j
      · rw [if_pos e3, if_pos e3]
      · rw [if_neg e3, if_neg e3, if_neg (show ¬ i + j = 3 by omega), if_neg (show ¬ i + j = 3 by omega)]
theorem sp_awa {post : Int32 → Prop} {fr : Int32} {a1 a2 a3 a4 a5 a6 : Nat → Int32} {a : Int} (hE : sp_H (sp_E2 a) a2 a3) (H : post 1) : wpX_agreesWithAll post (nI 2, 1, nI (sp_E2 a).length, fr, a1, a2, a3, a4, a5, a6) 1 := by
  have nb : narrow .boolean (.int (1 : Int32)) = .int 1 := by decide
  unfold wpX_agreesWithAll
  dsimp only
  by_cases h0 : 0 < a
  · have e2 : sp_E2 a = [(1, 2 * a)] := if_pos h0
    rw [e2] at hE ⊢
    have h2 : a2 ((0 : Int32).toNatClampNeg) = 1 := (hE 0 Nat.zero_lt_one).1
    refine ⟨2, br_f (show ¬ nI 1 ≤ 0 by decide) (br_f sp_10 ⟨vp_in_nI (n := 0) (by decide) (by decide), ?_⟩)⟩
    rw [h2]
    exact nm_e (br_t (by decide) (nm_e (br_t (show nI 1 ≤ 0 + 1 by decide) ⟨nb, H⟩)))
  · have e2 : sp_E2 a = [] := if_neg h0
    rw [e2]
    exact ⟨1, br_t (show nI 0 ≤ 0 by decide) ⟨nb, H⟩⟩
theorem sp_agrees1 {post : Int32 → St2 → Prop} {fr : Int32} {a1 a2 a3 a4 a5 a6 : Nat → Int32} {a : Int} (hE : sp_H (sp_E2 a) a2 a3)
    (H : post 1 (nI 2, 1, nI (sp_E2 a).length, fr, a1, a2, a3, a4, a5, a6)) : wpX_agrees post (nI 2, 1, nI (sp_E2 a).length, fr, a1, a2, a3, a4, a5, a6) 1 := by
  unfold wpX_agrees
  dsimp only
  exact sp_badSplit0 (by unfold sp_bad; decide) (br_t rfl (sp_findK (sp_awa hE (br_f sp_10 H))))
theorem sp_agreesN {post : Int32 → St2 → Prop} {cn kn fd fr : Int32} {a1 a2 a3 a4 a5 a6 : Nat → Int32} {s : Int32} (h : sp_bad cn s) (H : post (-1000) (cn, kn, fd, fr, a1, a2, a3, a4, a5, a6)) : wpX_agrees post (cn, kn, fd, fr, a1, a2, a3, a4, a5, a6) s := by
  unfold wpX_agrees
  dsimp only
  exact sp_badSplit1 h (br_f sp_10 H)
theorem sp_smooth0 {post : Int32 → St2 → Prop} {fd fr : Int32} {a1 a2 a3 a4 a5 a6 : Nat → Int32} (H : post 0 (nI 0, 1, fd, fr, a1, a2, a3, a4, a5, a6)) : wpX_smooth post (nI 0, 1, fd, fr, a1, a2, a3, a4, a5, a6) := by
  unfold wpX_smooth
  dsimp only
  exact sp_findK ⟨1, br_t (show nI 0 * nI 0 ≤ 0 by decide) ⟨1, br_t (show nI 0 * nI 0 ≤ 0 by decide) H⟩⟩
theorem sp_least {post : Int32 → Prop} {p q r : Int} (hp : sp_B p) (hq : sp_B q) (hr : sp_B r) (H : post (sp_I (sp_m3 p q r))) : wpL_least post () (sp_I p) (sp_I q) (sp_I r) := by
  unfold sp_m3 at H
  refine sp_cle q p hq hp (fun h1 => sp_cle r q hr hq (fun h2 => ?_) (fun h2 => ?_)) (fun h1 => sp_cle r p hr hp (fun h2 => ?_) (fun h2 => ?_))
  · rw [if_pos h1, if_pos h2] at H
    exact H
  · rw [if_pos h1, if_neg (by omega)] at H
    exact H
  · rw [if_neg (by omega), if_pos h2] at H
    exact H
  · rw [if_neg (by omega), if_neg (by omega)] at H
    exact H
end
section
/-! the law, from its end: three points -/
theorem sp_nb21 : ¬ sp_bad (nI 2) 1 := by unfold sp_bad; decide
theorem sp_nb31 : ¬ sp_bad (nI 3) 1 := by unfold sp_bad; decide
theorem sp_nb33 : ¬ sp_bad (nI 3) 3 := by unfold sp_bad; decide
theorem sp_nb35 : ¬ sp_bad (nI 3) 5 := by unfold sp_bad; decide
theorem sp_L1030 {post : Int32 → St0 → Prop} {mc ms kc ks : Nat} {z0 z1 kn fd fr : Int32} {a1 a2 a3 a4 a5 a6 : Nat → Int32} {a b c : Int} (h : sp_ok (sp_D a b c) 3 a1) (ha : 0 ≤ a ∧ a ≤ 60) (e : z1 = z0) (H : post 1 ()) :
    wL_lawOf_1030 post mc ms (sp_I a) z0 z1 kc ks (nI 3) kn fd fr a1 a2 a3 a4 a5 a6 := by
  unfold wL_lawOf_1030
  exact br_t e (sp_drop (n := 2) (by decide) (br_t rfl (sp_index (n := 2) (sp_ok_le h (by decide)) (by decide) sp_b12 sp_nb21 (sp_i12 ha) (br_t (sp_mul 2 a).symm H))))
theorem sp_L1009 {post : Int32 → St0 → Prop} {mc ms kc ks : Nat} {kn fd fr : Int32} {a1 a2 a3 a4 a5 a6 : Nat → Int32} {a b c : Int} (h : sp_ok (sp_D a b c) 3 a1) (ha : 0 ≤ a ∧ a ≤ 60) (H : post 1 ()) :
    wL_lawOf_1009 post mc ms (sp_I a) (-1000) kc ks (nI 3) kn fd fr a1 a2 a3 a4 a5 a6 := by
  unfold wL_lawOf_1009
  exact sp_L1030 h ha rfl H
theorem sp_L990 {post : Int32 → St0 → Prop} {mc ms kc ks : Nat} {x3 z0 z1 fr : Int32} {a1 a2 a3 a4 a5 a6 : Nat → Int32} {a b c : Int} {E : List (Int32 × Int)} (h : sp_ok (sp_D a b c) 3 a1) (ha : 0 ≤ a ∧ a ≤ 60) (hE : sp_H E a2 a3) (hl : E.length ≤ 32) (hP : ∀ i j, sp_B (sp_pa E i j E.length))
    (e : z1 = z0) (H : post 1 ()) : wL_lawOf_990 post mc ms x3 (sp_I a) z0 z1 kc ks (nI 3) 1 (nI E.length) fr a1 a2 a3 a4 a5 a6 := by
  unfold wL_lawOf_990
  refine br_t e ?_
  rcases pk_ix x3 (n := 3) (by decide) with h3 | h3 | ⟨j, hj, rfl⟩
  · exact sp_together_bad (Or.inl h3) (br_t h3 (sp_L1009 h ha H))
  · have h3' : ¬ x3 < nI 3 := Int32.not_lt.mpr h3
    have h0 : ¬ x3 < 0 := fun z => h3' (Int32.lt_trans z (by decide))
    have h2 : ¬ x3 ≤ 2 := fun z => h3' (Int32.lt_of_le_of_lt z (by decide))
    exact sp_together_bad (Or.inr h3') (br_f h0 (br_f h2 (sp_L1009 h ha H)))
  · refine sp_together (n := 3) (i := j) (j := 0) (by decide) hj (by decide) hE hl (hP _ _) (br_f (nI_pos (by omega)) (br_t (nI_le (b := 2) (by omega) (by decide)) (sp_treeDist (n := 3) (i := j) (j := 0) (by decide) hj (by decide) hE hl (sp_ceq _ 0 (hP _ _) ⟨by decide, by decide⟩ (fun hc => sp_L1030 h ha ?_ H) (fun hc => sp_L1030 h ha ?_ H)))))
    · rw [decide_eq_true hc]
      rfl
    · rw [decide_eq_false hc]
      rfl
theorem sp_L985 {post : Int32 → St0 → Prop} {mc ms kc ks : Nat} {x3 fr : Int32} {a1 a2 a3 a4 a5 a6 : Nat → Int32} {a b c : Int} {E : List (Int32 × Int)} (h : sp_ok (sp_D a b c) 3 a1) (ha : 0 ≤ a ∧ a ≤ 60) (hE : sp_H E a2 a3) (hl : E.length ≤ 32) (hP : ∀ i j, sp_B (sp_pa E i j E.length))
    (H : post 1 ()) : wL_lawOf_985 post mc ms x3 (sp_I a) 1 kc ks (nI 3) 1 (nI E.length) fr a1 a2 a3 a4 a5 a6 := by
  unfold wL_lawOf_985
  exact sp_L990 h ha hE hl hP rfl H
theorem sp_bad3 {s : Int32} (h1 : ¬ s = 1) (h3 : ¬ s = 3) (h5 : ¬ s = 5) : sp_bad (nI 3) s := by
  by_cases g1 : s < 1
  · exact Or.inr (Or.inl g1)
  · rcases pk_ix s (n := 7) (by decide) with g | g | ⟨j, hj, rfl⟩
    · exact Or.inr (Or.inl (Int32.lt_trans g (by decide)))
    · exact Or.inr (Or.inr (Or.inl g))
    · refine Or.inr (Or.inr (Or.inr ?_))
      have hj' : j = 0 ∨ j = 1 ∨ j = 2 ∨ j = 3 ∨ j = 4 ∨ j = 5 ∨ j = 6 := by omega
      rcases hj' with rfl | rfl | rfl | rfl | rfl | rfl | rfl
      · decide
      · exact absurd rfl h1
      · decide
      · exact absurd rfl h3
      · decide
      · exact absurd rfl h5
      · decide
theorem sp_ne1000 {r : Int} (h : -120 ≤ r ∧ r ≤ 1000) : ¬ sp_I r = -1000 := by
  intro e
  have := (sp_eq (x := r) (y := -1000) ⟨by omega, by omega⟩ ⟨by decide, by decide⟩).mp (e.trans (show (-1000 : Int32) = sp_I (-1000) by decide))
  omega
theorem sp_L949 {post : Int32 → St0 → Prop} {mc ms kc ks : Nat} {x3 x4 fr : Int32} {a1 a2 a3 a4 a5 a6 : Nat → Int32} {a b c : Int} {E : List (Int32 × Int)} (h : sp_ok (sp_D a b c) 3 a1) (ha : 0 ≤ a ∧ a ≤ 60) (hE : sp_H E a2 a3) (hl : E.length ≤ 32) (hP : ∀ i j, sp_B (sp_pa E i j E.length))
    (H : post 1 ()) : wL_lawOf_949 post mc ms x3 x4 (sp_I a) kc ks (nI 3) 1 (nI E.length) fr a1 a2 a3 a4 a5 a6 := by
  unfold wL_lawOf_949
  by_cases h1 : x4 = 1
  · subst h1
    refine sp_index (n := 3) h (by decide) sp_b13 sp_nb31 rfl (br_f (sp_ne1000 (sp_ixB h.2.1 _ _ _)) ?_)
    unfold wL_lawOf_967
    exact br_t rfl (sp_L985 h ha hE hl hP H)
  · by_cases h3 : x4 = 3
    · subst h3
      refine sp_index (n := 3) h (by decide) sp_b33 sp_nb33 rfl (br_f (sp_ne1000 (sp_ixB h.2.1 _ _ _)) ?_)
      unfold wL_lawOf_967
      exact br_f h1 (br_t rfl (sp_L985 h ha hE hl hP H))
    · by_cases h5 : x4 = 5
      · subst h5
        refine sp_index (n := 3) h (by decide) sp_b53 sp_nb35 rfl (br_f (sp_ne1000 (sp_ixB h.2.1 _ _ _)) ?_)
        unfold wL_lawOf_967
        exact br_f h1 (br_f h3 (br_t rfl (sp_L985 h ha hE hl hP H)))
      · refine sp_index_bad (sp_bad3 h1 h3 h5) (br_t rfl ?_)
        unfold wL_lawOf_967
        exact br_f h1 (br_f h3 (br_f h5 (sp_L990 h ha hE hl hP rfl H)))
theorem sp_L944 {post : Int32 → St0 → Prop} {mc ms kc ks : Nat} {x3 x4 z0 z1 fr : Int32} {a1 a2 a3 a4 a5 a6 : Nat → Int32} {a b c : Int} {E : List (Int32 × Int)} (h : sp_ok (sp_D a b c) 3 a1) (ha : 0 ≤ a ∧ a ≤ 60) (hE : sp_H E a2 a3) (hl : E.length ≤ 32) (hP : ∀ i j, sp_B (sp_pa E i j E.length))
    (e : z1 = z0) (H : post 1 ()) : wL_lawOf_944 post mc ms x3 x4 (sp_I a) z0 z1 kc ks (nI 3) 1 (nI E.length) fr a1 a2 a3 a4 a5 a6 := by
  unfold wL_lawOf_944
  exact br_t e (sp_L949 h ha hE hl hP H)
theorem sp_L889 {post : Int32 → St0 → Prop} {mc ms kc ks : Nat} {x3 x4 x17 z0 z1 fr : Int32} {a1 a2 a3 a4 a5 a6 : Nat → Int32} {a b c x y z : Int} (h : sp_ok (sp_D a b c) 3 a1) (ha : 0 ≤ a ∧ a ≤ 60) (hx : sp_B x) (hz : sp_B z) (hE : sp_H (sp_E3 x y z) a2 a3) (hP : ∀ i j, sp_B (sp_pa (sp_E3 x y z) i j (sp_E3 x y z).length))
    (e17 : x17 = nI (sp_E3 x y z).length) (e : z1 = z0) (H : post 1 ()) : wL_lawOf_889 post mc ms x3 x4 (sp_I a) (sp_I x) (sp_I z) x17 z0 z1 kc ks (nI 3) 1 (nI (sp_E3 x y z).length) fr a1 a2 a3 a4 a5 a6 := by
  subst e17
  have hl := sp_lenB3 x y z
  unfold wL_lawOf_889
  refine br_t e (sp_agreeing hl (by decide) (sp_sides hE) (br_t (sp_ag3 x y z) (sp_edgeN (Or.inr (nI_nlt (Nat.le_refl _) (by omega))) (br_t rfl ?_))))
  refine pk_le (sp_E3 x y z).length 0 (fun _ => sp_L949 h ha hE hl hP H) (fun hpos => sp_edge (k := 0) hE hl hpos ?_)
  refine sp_cle x 0 hx ⟨by decide, by decide⟩ (fun gx => sp_cle z 0 hz ⟨by decide, by decide⟩ (fun gz => sp_L944 h ha hE hl hP ?_ H) (fun gz => sp_L944 h ha hE hl hP ?_ H)) (fun gx => sp_L944 h ha hE hl hP ?_ H)
  · unfold sp_E3 at hpos ⊢
    rw [if_neg (by omega), if_neg (by omega)] at hpos ⊢
    split
    · rfl
    · next g =>
      rw [if_neg g] at hpos
      exact absurd hpos (by decide)
  · unfold sp_E3
    rw [if_neg (by omega), if_pos gz]
    rfl
  · unfold sp_E3
    rw [if_pos gx]
    rfl
theorem sp_L872 {post : Int32 → St0 → Prop} {mc ms kc ks : Nat} {x3 x4 x17 z0 fr : Int32} {a1 a2 a3 a4 a5 a6 : Nat → Int32} {a b c x y z : Int} (h : sp_ok (sp_D a b c) 3 a1) (ha : 0 ≤ a ∧ a ≤ 60) (hx : sp_B x) (hz : sp_B z) (hE : sp_H (sp_E3 x y z) a2 a3) (hP : ∀ i j, sp_B (sp_pa (sp_E3 x y z) i j (sp_E3 x y z).length))
    (e17 : x17 = nI (sp_E3 x y z).length) (e : z0 = sp_b (sp_tl (sp_E3 x y z) (sp_D a b c) 3 (3 * 3))) (H : post 1 ()) : wL_lawOf_872 post mc ms x3 x4 (sp_I a) (sp_I x) (sp_I z) x17 z0 kc ks (nI 3) 1 (nI (sp_E3 x y z).length) fr a1 a2 a3 a4 a5 a6 := by
  unfold wL_lawOf_872
  refine sp_treelike (n := 3) h hE (sp_lenB3 x y z) hP ?_
  cases g : sp_tl (sp_E3 x y z) (sp_D a b c) 3 (3 * 3) with
  | true =>
    rw [g] at e
    exact br_f (by rw [e]; decide) (sp_L889 h ha hx hz hE hP e17 rfl H)
  | false =>
    rw [g] at e
    exact br_t e (sp_L889 h ha hx hz hE hP e17 rfl H)
theorem sp_L871 {post : Int32 → St0 → Prop} {mc ms kc ks : Nat} {x3 x4 x17 fr : Int32} {a1 a2 a3 a4 a5 a6 : Nat → Int32} {a b c x y z : Int} (h : sp_ok (sp_D a b c) 3 a1) (ha : 0 ≤ a ∧ a ≤ 60) (hx : sp_B x) (hz : sp_B z) (hE : sp_H (sp_E3 x y z) a2 a3) (hP : ∀ i j, sp_B (sp_pa (sp_E3 x y z) i j (sp_E3 x y z).length))
    (e17 : x17 = nI (sp_E3 x y z).length) (e : sp_tl (sp_E3 x y z) (sp_D a b c) 3 (3 * 3) = false) (H : post 1 ()) : wL_lawOf_871 post mc ms x3 x4 (sp_I a) (sp_I x) (sp_I z) x17 kc ks (nI 3) 1 (nI (sp_E3 x y z).length) fr a1 a2 a3 a4 a5 a6 := by
  unfold wL_lawOf_871
  exact sp_L872 h ha hx hz hE hP e17 (by rw [e]; rfl) H
theorem sp_L761 {post : Int32 → St0 → Prop} {mc ms kc ks : Nat} {x3 x4 z0 z1 fd fr : Int32} {a1 a2 a3 a4 a5 a6 : Nat → Int32} {a b c x y z : Int} (h : sp_ok (sp_D a b c) 3 a1) (ha : 0 ≤ a ∧ a ≤ 60) (hb : 0 ≤ b ∧ b ≤ 60) (hc : 0 ≤ c ∧ c ≤ 60)
    (ex : sp_m3 (2 * a) (2 * b) (a + b - c) = x) (ey : sp_m3 (2 * a) (2 * c) (a + c - b) = y) (ez : sp_m3 (2 * b) (2 * c) (b + c - a) = z)
    (e17 : z1 + z0 = nI (sp_E3 x y z).length) (H : post 1 ()) :
    wL_lawOf_761 post mc ms x3 x4 (sp_I a) (sp_I b) (sp_I c) (sp_I x) (sp_I z) (sp_I (sp_u x)) (sp_I (sp_u y)) (sp_I (sp_u z)) z0 z1 kc ks (nI 3) 0 fd fr a1 a2 a3 a4 a5 a6 := by
  have m1 := sp_m3B ha hb hc
  have m2 := sp_m3B ha hc hb
  have m3 := sp_m3B hb hc ha
  rw [ex] at m1
  rw [ey] at m2
  rw [ez] at m3
  have hl := sp_lenB3 x y z
  have hP : ∀ i j, sp_B (sp_pa (sp_E3 x y z) i j (sp_E3 x y z).length) := sp_paB3 m1.2 m2.2 m3.2
  have hx : sp_B x := ⟨by omega, by omega⟩
  have hz : sp_B z := ⟨by omega, by omega⟩
  have tl := sp_tl3 ha hb hc ex ey ez
  have p01 : sp_pa (sp_E3 x y z) (nI 0) (nI 1) (sp_E3 x y z).length = sp_u x + sp_u y := by
    rw [sp_pa3 (by decide) (by decide)]
    simp [sp_df, sp_t1, sp_t3, sp_t5]
  have p20 : sp_pa (sp_E3 x y z) (nI 2) (nI 0) (sp_E3 x y z).length = sp_u x + sp_u z := by
    rw [sp_pa3 (by decide) (by decide)]
    simp [sp_df, sp_t1, sp_t3, sp_t5]
  have p12 : sp_pa (sp_E3 x y z) (nI 1) (nI 2) (sp_E3 x y z).length = sp_u y + sp_u z := by
    rw [sp_pa3 (by decide) (by decide)]
    simp [sp_df, sp_t1, sp_t3, sp_t5]
  unfold wL_lawOf_761
  refine nm_r e17 (sp_edges3 h ha hb hc ex ey ez (fun fr' a2' a3' a4' a5' hE => br_t rfl ?_))
  refine sp_treeDist (n := 3) (i := 0) (j := 1) (by decide) (by decide) (by decide) hE hl (br_t (by rw [p01, sp_add]) ?_)
  refine sp_treeDist (n := 3) (i := 2) (j := 0) (by decide) (by decide) (by decide) hE hl (br_t (by rw [p20, sp_add]) ?_)
  refine sp_treeDist (n := 3) (i := 1) (j := 2) (by decide) (by decide) (by decide) hE hl (br_t (by rw [p12, sp_add]) ?_)
  refine sp_weight hE hl (br_t (by rw [sp_wt3, sp_add, sp_add]) ?_)
  refine sp_clt (b + c) a ⟨by omega, by omega⟩ ⟨by omega, by omega⟩ (fun g => ?_) (fun g => ?_) (sp_add b c) rfl
  · exact sp_L871 h ha hx hz hE hP rfl (by rw [tl]; exact decide_eq_false (by omega)) H
  refine sp_clt (a + c) b ⟨by omega, by omega⟩ ⟨by omega, by omega⟩ (fun g' => ?_) (fun g' => ?_) (sp_add a c) rfl
  · exact sp_L871 h ha hx hz hE hP rfl (by rw [tl]; exact decide_eq_false (by omega)) H
  refine sp_clt (a + b) c ⟨by omega, by omega⟩ ⟨by omega, by omega⟩ (fun g'' => ?_) (fun g'' => ?_) (sp_add a b) rfl
  · exact sp_L871 h ha hx hz hE hP rfl (by rw [tl]; exact decide_eq_false (by omega)) H
  · exact sp_L872 h ha hx hz hE hP rfl (by rw [tl, decide_eq_true ⟨g, g', g''⟩]; rfl) H
end
section
/-! the law, its middle -/
theorem sp_L750 {post : Int32 → St0 → Prop} {mc ms kc ks : Nat} {x3 x4 z0 z1 fd fr : Int32} {a1 a2 a3 a4 a5 a6 : Nat → Int32} {a b c x y z : Int} (h : sp_ok (sp_D a b c) 3 a1) (ha : 0 ≤ a ∧ a ≤ 60) (hb : 0 ≤ b ∧ b ≤ 60) (hc : 0 ≤ c ∧ c ≤ 60)
    (ex : sp_m3 (2 * a) (2 * b) (a + b - c) = x) (ey : sp_m3 (2 * a) (2 * c) (a + c - b) = y) (ez : sp_m3 (2 * b) (2 * c) (b + c - a) = z)
    (e1 : z1 = nI (sp_cn x)) (e0 : z0 = nI (sp_cn y)) (H : post 1 ()) :
    wL_lawOf_750 post mc ms x3 x4 (sp_I a) (sp_I b) (sp_I c) (sp_I x) (sp_I z) (sp_I (sp_u x)) (sp_I (sp_u y)) (sp_I (sp_u z)) z0 z1 kc ks (nI 3) 0 fd fr a1 a2 a3 a4 a5 a6 := by
  subst e1 e0
  have m3 := sp_m3B hb hc ha
  rw [ez] at m3
  unfold wL_lawOf_750
  refine sp_cle z 0 ⟨by omega, by omega⟩ ⟨by decide, by decide⟩ (fun g => sp_L761 h ha hb hc ex ey ez ?_ H) (fun g => sp_L761 h ha hb hc ex ey ez ?_ H)
  · rw [sp_len3, sp_c0 g, nI_add]
    exact nI_add _ 0
  · rw [sp_len3, sp_c1 g, nI_add]
    exact nI_add _ 1
theorem sp_L740 {post : Int32 → St0 → Prop} {mc ms kc ks : Nat} {x3 x4 z0 fd fr : Int32} {a1 a2 a3 a4 a5 a6 : Nat → Int32} {a b c x y z : Int} (h : sp_ok (sp_D a b c) 3 a1) (ha : 0 ≤ a ∧ a ≤ 60) (hb : 0 ≤ b ∧ b ≤ 60) (hc : 0 ≤ c ∧ c ≤ 60)
    (ex : sp_m3 (2 * a) (2 * b) (a + b - c) = x) (ey : sp_m3 (2 * a) (2 * c) (a + c - b) = y) (ez : sp_m3 (2 * b) (2 * c) (b + c - a) = z)
    (e0 : z0 = nI (sp_cn x)) (H : post 1 ()) :
    wL_lawOf_740 post mc ms x3 x4 (sp_I a) (sp_I b) (sp_I c) (sp_I x) (sp_I y) (sp_I z) (sp_I (sp_u x)) (sp_I (sp_u y)) (sp_I (sp_u z)) z0 kc ks (nI 3) 0 fd fr a1 a2 a3 a4 a5 a6 := by
  have m2 := sp_m3B ha hc hb
  rw [ey] at m2
  unfold wL_lawOf_740
  refine sp_cle y 0 ⟨by omega, by omega⟩ ⟨by decide, by decide⟩ (fun g => sp_L750 h ha hb hc ex ey ez e0 ?_ H) (fun g => sp_L750 h ha hb hc ex ey ez e0 ?_ H)
  · rw [sp_c0 g]
    rfl
  · rw [sp_c1 g]
    rfl
theorem sp_L728 {post : Int32 → St0 → Prop} {mc ms kc ks : Nat} {x3 x4 z0 fd fr : Int32} {a1 a2 a3 a4 a5 a6 : Nat → Int32} {a b c x y z : Int} (h : sp_ok (sp_D a b c) 3 a1) (ha : 0 ≤ a ∧ a ≤ 60) (hb : 0 ≤ b ∧ b ≤ 60) (hc : 0 ≤ c ∧ c ≤ 60)
    (ex : sp_m3 (2 * a) (2 * b) (a + b - c) = x) (ey : sp_m3 (2 * a) (2 * c) (a + c - b) = y) (ez : sp_m3 (2 * b) (2 * c) (b + c - a) = z)
    (e0 : z0 = sp_I (sp_u z)) (H : post 1 ()) :
    wL_lawOf_728 post mc ms x3 x4 (sp_I a) (sp_I b) (sp_I c) (sp_I x) (sp_I y) (sp_I z) (sp_I (sp_u x)) (sp_I (sp_u y)) z0 kc ks (nI 3) 0 fd fr a1 a2 a3 a4 a5 a6 := by
  subst e0
  have m1 := sp_m3B ha hb hc
  rw [ex] at m1
  unfold wL_lawOf_728
  refine sp_cle x 0 ⟨by omega, by omega⟩ ⟨by decide, by decide⟩ (fun g => sp_L740 h ha hb hc ex ey ez ?_ H) (fun g => sp_L740 h ha hb hc ex ey ez ?_ H)
  · rw [sp_c0 g]
    rfl
  · rw [sp_c1 g]
    rfl
theorem sp_L715 {post : Int32 → St0 → Prop} {mc ms kc ks : Nat} {x3 x4 z0 fd fr : Int32} {a1 a2 a3 a4 a5 a6 : Nat → Int32} {a b c x y z : Int} (h : sp_ok (sp_D a b c) 3 a1) (ha : 0 ≤ a ∧ a ≤ 60) (hb : 0 ≤ b ∧ b ≤ 60) (hc : 0 ≤ c ∧ c ≤ 60)
    (ex : sp_m3 (2 * a) (2 * b) (a + b - c) = x) (ey : sp_m3 (2 * a) (2 * c) (a + c - b) = y) (ez : sp_m3 (2 * b) (2 * c) (b + c - a) = z)
    (e0 : z0 = sp_I (sp_u y)) (H : post 1 ()) :
    wL_lawOf_715 post mc ms x3 x4 (sp_I a) (sp_I b) (sp_I c) (sp_I x) (sp_I y) (sp_I z) (sp_I (sp_u x)) z0 kc ks (nI 3) 0 fd fr a1 a2 a3 a4 a5 a6 := by
  subst e0
  have m3 := sp_m3B hb hc ha
  rw [ez] at m3
  unfold wL_lawOf_715
  refine sp_cle z 0 ⟨by omega, by omega⟩ ⟨by decide, by decide⟩ (fun g => sp_L728 h ha hb hc ex ey ez ?_ H) (fun g => sp_L728 h ha hb hc ex ey ez ?_ H)
  · rw [sp_u0 g]
    rfl
  · rw [sp_u1 g]
theorem sp_L702 {post : Int32 → St0 → Prop} {mc ms kc ks : Nat} {x3 x4 z0 fd fr : Int32} {a1 a2 a3 a4 a5 a6 : Nat → Int32} {a b c x y z : Int} (h : sp_ok (sp_D a b c) 3 a1) (ha : 0 ≤ a ∧ a ≤ 60) (hb : 0 ≤ b ∧ b ≤ 60) (hc : 0 ≤ c ∧ c ≤ 60)
    (ex : sp_m3 (2 * a) (2 * b) (a + b - c) = x) (ey : sp_m3 (2 * a) (2 * c) (a + c - b) = y) (ez : sp_m3 (2 * b) (2 * c) (b + c - a) = z)
    (e0 : z0 = sp_I (sp_u x)) (H : post 1 ()) :
    wL_lawOf_702 post mc ms x3 x4 (sp_I a) (sp_I b) (sp_I c) (sp_I x) (sp_I y) (sp_I z) z0 kc ks (nI 3) 0 fd fr a1 a2 a3 a4 a5 a6 := by
  subst e0
  have m2 := sp_m3B ha hc hb
  rw [ey] at m2
  unfold wL_lawOf_702
  refine sp_cle y 0 ⟨by omega, by omega⟩ ⟨by decide, by decide⟩ (fun g => sp_L715 h ha hb hc ex ey ez ?_ H) (fun g => sp_L715 h ha hb hc ex ey ez ?_ H)
  · rw [sp_u0 g]
    rfl
  · rw [sp_u1 g]
theorem sp_pointI {post : Int32 → St2 → Prop} {kn fd fr : Int32} {a1 a2 a3 a4 a5 a6 : Nat → Int32} {D : Nat → Nat → Int} {n d : Nat} (hn : n < 7) (hd : d < 61) (h : sp_ok D n a1) (e2 : D n n = 0) (e3 : ∀ i, i < n → D i n = d ∧ D n i = d)
    (H : ∀ a1', sp_ok D (n + 1) a1' → post (nI n) (nI (n + 1), 0, fd, fr, a1', a2, a3, a4, a5, a6)) : wpX_point post (nI n, kn, fd, fr, a1, a2, a3, a4, a5, a6) (sp_I d) := by
  rw [← sp_nI]
  exact sp_point hn hd h h.2.1 (fun _ _ _ _ => rfl) e2 e3 H
theorem sp_setI {post : Int32 → St2 → Prop} {kn fd fr : Int32} {a1 a2 a3 a4 a5 a6 : Nat → Int32} {a b c' : Int} {c : Nat} (h : sp_ok (sp_D a b c') 3 a1) (ha : 0 ≤ a ∧ a ≤ 60) (hb : 0 ≤ b ∧ b ≤ 60) (hc : c < 61)
    (H : ∀ a1', sp_ok (sp_D a b c) 3 a1' → post (sp_I c') (nI 3, 0, fd, fr, a1', a2, a3, a4, a5, a6)) : wpX_set post (nI 3, kn, fd, fr, a1, a2, a3, a4, a5, a6) (nI 1) (nI 2) (sp_I c) := by
  rw [← sp_nI]
  exact sp_setD h ha hb hc H
theorem sp_leastI {post : Int32 → Prop} {P Q R : Int32} {p q r x : Int} (eP : P = sp_I p) (eQ : Q = sp_I q) (eR : R = sp_I r) (ex : sp_m3 p q r = x) (hp : sp_B p) (hq : sp_B q) (hr : sp_B r) (H : post (sp_I x)) : wpL_least post () P Q R := by
  subst eP eQ eR ex
  exact sp_least hp hq hr H
theorem sp_L417 {post : Int32 → St0 → Prop} {mc ms kc ks : Nat} {x3 x4 z0 z1 fr : Int32} {a1 a2 a3 a4 a5 a6 : Nat → Int32} {a b c : Nat} (ha : a < 32) (hb : b < 61) (hc : c < 61) (h : sp_ok (sp_D a b b) 2 a1) (hE : sp_H (sp_E2 a) a2 a3) (e : z1 = z0) (H : post 1 ()) :
    wL_lawOf_417 post mc ms x3 x4 (sp_I a) (sp_I b) (sp_I c) z0 z1 kc ks (nI 2) 1 (nI (sp_E2 a).length) fr a1 a2 a3 a4 a5 a6 := by
  have ha' : 0 ≤ (a : Int) ∧ (a : Int) ≤ 60 := ⟨by omega, by omega⟩
  have hb' : 0 ≤ (b : Int) ∧ (b : Int) ≤ 60 := ⟨by omega, by omega⟩
  have hc' : 0 ≤ (c : Int) ∧ (c : Int) ≤ 60 := ⟨by omega, by omega⟩
  have hl := sp_lenB2 a
  unfold wL_lawOf_417
  refine br_t e (sp_agrees1 hE (br_t rfl ?_))
  refine sp_agreesN (by unfold sp_bad; decide) (br_t rfl ?_)
  refine sp_agreeing hl (by decide) (sp_sides hE) (br_t (sp_ag2 a) ?_)
  refine sp_treelike (n := 2) h hE hl (sp_paB2 ha') (br_t (by rw [sp_tl2 ha'.1]; rfl) ?_)
  refine sp_weight hE hl (br_t (by rw [sp_wt2 ha'.1]; exact (sp_mul 2 a).symm) ?_)
  have e3 : ∀ i, i < 2 → sp_D a b b i 2 = b ∧ sp_D a b b 2 i = b := fun i hi => co_2 (P := fun i => sp_D a b b i 2 = b ∧ sp_D a b b 2 i = b) ⟨rfl, rfl⟩ ⟨rfl, rfl⟩ hi
  refine sp_pointI (n := 2) (by decide) hb h rfl e3 (fun a1' h' => br_t rfl ?_)
  refine sp_setI h' ha' hb' hc (fun a1'' h'' => br_t rfl ?_)
  refine sp_set2 (n := 3) (i := 2) (by decide) (by decide) (Or.inr (by decide)) (br_t rfl ?_)
  refine sp_set3 (n := 3) (i := 0) (j := 1) (by decide) (by decide) (by decide) (Or.inr (Or.inr (by decide))) (br_t rfl ?_)
  refine sp_set3 (n := 3) (i := 0) (j := 1) (by decide) (by decide) (by decide) (Or.inr (Or.inl (by decide))) (br_t rfl ?_)
  refine sp_distance (n := 3) (i := 2) (j := 1) h'' (by decide) (by decide) (br_t rfl ?_)
  refine sp_leastI (sp_mul 2 a) (sp_mul 2 b) (by rw [sp_add, sp_sub]) rfl ⟨by omega, by omega⟩ ⟨by omega, by omega⟩ ⟨by omega, by omega⟩ ?_
  refine sp_leastI (sp_mul 2 a) (sp_mul 2 c) (by rw [sp_add, sp_sub]) rfl ⟨by omega, by omega⟩ ⟨by omega, by omega⟩ ⟨by omega, by omega⟩ ?_
  refine sp_leastI (sp_mul 2 b) (sp_mul 2 c) (by rw [sp_add, sp_sub]) rfl ⟨by omega, by omega⟩ ⟨by omega, by omega⟩ ⟨by omega, by omega⟩ ?_
  refine sp_index (n := 3) h'' (by decide) sp_b13 sp_nb31 (sp_i13 ha' hb' hc') (br_t rfl ?_)
  refine sp_index (n := 3) h'' (by decide) sp_b53 sp_nb35 (sp_i53 ha' hb' hc') (br_t rfl ?_)
  refine sp_index (n := 3) h'' (by decide) sp_b33 sp_nb33 (sp_i33 ha' hb' hc') (br_t rfl ?_)
  refine sp_index_bad (by unfold sp_bad; decide) (br_t rfl ?_)
  refine sp_index_bad (by unfold sp_bad; decide) (br_t rfl ?_)
  refine sp_index_bad (by unfold sp_bad; decide) (br_t rfl ?_)
  have m1 := sp_m3B ha' hb' hc'
  refine sp_cle (sp_m3 (2 * (a : Int)) (2 * (b : Int)) ((a : Int) + b - c)) 0 ⟨by omega, by omega⟩ ⟨by decide, by decide⟩ (fun g => sp_L702 h'' ha' hb' hc' rfl rfl rfl ?_ H) (fun g => sp_L702 h'' ha' hb' hc' rfl rfl rfl ?_ H)
  · rw [sp_u0 g]
    rfl
  · rw [sp_u1 g]
end
section
/-! the law, its front -/
theorem sp_L369 {post : Int32 → St0 → Prop} {mc ms kc ks : Nat} {x3 x4 z0 z1 fr : Int32} {a1 a2 a3 a4 a5 a6 : Nat → Int32} {a b c : Nat} (ha : a < 32) (hb : b < 61) (hc : c < 61) (h : sp_ok (sp_D a b b) 2 a1) (hE : sp_H (sp_E2 a) a2 a3) (e : z1 = z0) (H : post 1 ()) :
    wL_lawOf_369 post mc ms x3 x4 (sp_I a) (sp_I b) (sp_I c) z0 z1 kc ks (nI 2) 1 (nI (sp_E2 a).length) fr a1 a2 a3 a4 a5 a6 := by
  have ha' : 0 ≤ (a : Int) ∧ (a : Int) ≤ 60 := ⟨by omega, by omega⟩
  have hl := sp_lenB2 a
  have p01 : sp_pa (sp_E2 a) (nI 0) (nI 1) (sp_E2 a).length = 2 * a := sp_pa2 ha'.1 (by decide) (by decide)
  unfold wL_lawOf_369
  refine br_t e (sp_treeDist (n := 2) (i := 0) (j := 1) (by decide) (by decide) (by decide) hE hl (br_t (by rw [p01]; exact (sp_mul 2 a).symm) ?_))
  refine sp_span (n := 2) (by decide) hE hl (sp_paB2 ha') (br_t (by rw [sp_sn2 ha'.1]; exact (sp_mul 2 a).symm) ?_)
  refine sp_together (n := 2) (i := 0) (j := 1) (by decide) (by decide) (by decide) hE hl (sp_paB2 ha' _ _) ?_
  refine sp_cle a 0 ⟨by omega, by omega⟩ ⟨by decide, by decide⟩ (fun g => sp_L417 ha hb hc h hE ?_ H) (fun g => sp_L417 ha hb hc h hE ?_ H)
  · rw [decide_eq_true (by rw [p01]; omega)]
    rfl
  · rw [decide_eq_false (by rw [p01]; omega)]
    rfl
theorem sp_L348 {post : Int32 → St0 → Prop} {mc ms kc ks : Nat} {x3 x4 z0 z1 fr : Int32} {a1 a2 a3 a4 a5 a6 : Nat → Int32} {a b c : Nat} (ha : a < 32) (hb : b < 61) (hc : c < 61) (h : sp_ok (sp_D a b b) 2 a1) (hE : sp_H (sp_E2 a) a2 a3) (e : z1 = z0) (H : post 1 ()) :
    wL_lawOf_348 post mc ms x3 x4 (sp_I a) (sp_I b) (sp_I c) z0 z1 kc ks (nI 2) 1 (nI (sp_E2 a).length) fr a1 a2 a3 a4 a5 a6 := by
  have hl := sp_lenB2 a
  unfold wL_lawOf_348
  refine br_t e ?_
  by_cases g : 0 < (a : Int)
  · have e1 : (sp_E2 a).length = 1 := by rw [sp_len2, sp_c1 g]
    have e2 : sp_sd (sp_E2 a) 0 = 1 := by
      unfold sp_E2
      rw [if_pos g]
      rfl
    refine sp_edge (k := 0) hE hl (by omega) (br_f ?_ (sp_L369 ha hb hc h hE e2 H))
    rw [show (0 : Int32) = sp_I 0 from rfl, sp_le ⟨by omega, by omega⟩ ⟨by decide, by decide⟩]
    omega
  · have e1 : (sp_E2 a).length = 0 := by rw [sp_len2, sp_c0 (by omega)]
    refine sp_edgeN (Or.inr (by rw [e1]; decide)) (br_t ?_ (sp_L369 ha hb hc h hE rfl H))
    rw [show (0 : Int32) = sp_I 0 from rfl, sp_le ⟨by omega, by omega⟩ ⟨by decide, by decide⟩]
    omega
theorem sp_none : ∀ k, k < 0 → ∀ a2 : Nat → Int32, a2 k = sp_sd [] k := fun k hk => absurd hk (by omega)
theorem sp_paN (i j : Int32) : sp_B (sp_pa [] i j ([] : List (Int32 × Int)).length) := show sp_B 0 from ⟨by decide, by decide⟩
def sp_Z (i j : Nat) : Int := 0
theorem sp_ZB (i j : Nat) : 0 ≤ sp_Z i j ∧ sp_Z i j ≤ 60 := show (0 : Int) ≤ 0 ∧ (0 : Int) ≤ 60 from ⟨by decide, by decide⟩
theorem sp_okZ (a1 : Nat → Int32) : sp_ok sp_Z 0 a1 := ⟨by decide, sp_ZB, fun i j hi => absurd hi (by omega)⟩
theorem sp_L124a {post : Int32 → St0 → Prop} {mc ms kc ks : Nat} {x1 x2 x3 x4 x5 fr : Int32} {a1 a2 a3 a4 a5 a6 : Nat → Int32} (H : post 1 ()) :
    wL_lawOf_124 post mc ms x1 x2 x3 x4 x5 0 0 0 kc ks (nI 0) 1 (nI 0) fr a1 a2 a3 a4 a5 a6 := by
  unfold wL_lawOf_124
  refine br_t rfl (sp_index_bad (Or.inl (by decide)) (br_t rfl ?_))
  refine sp_edgeN ?_ (br_t rfl ?_)
  · by_cases g : x5 < 0
    · exact Or.inl g
    · exact Or.inr g
  refine sp_agreeing (m := 0) (n := 0) (by decide) (by decide) (fun k hk => sp_none k hk _) (br_t sp_ag0 (br_t rfl ?_))
  unfold wpX_distance
  dsimp only
  refine sp_miss1 (Or.inr (by decide)) (br_f sp_10 (br_t rfl ?_))
  refine sp_together_bad (Or.inr (by decide)) (br_t rfl ?_)
  refine sp_set1 (Or.inr (show ¬ (0 : Int32) < nI 0 by decide)) (br_t rfl ?_)
  exact sp_point (n := 0) (d := 7) (by decide) (by decide) (sp_okZ _) sp_ZB (fun _ _ _ _ => rfl) rfl (fun i hi => absurd hi (by omega)) (fun _ _ => br_t rfl H)
theorem sp_L124b {post : Int32 → St0 → Prop} {mc ms kc ks : Nat} {x1 x2 x3 x4 x5 fd fr : Int32} {a1 a2 a3 a4 a5 a6 : Nat → Int32} (h0 : a1 0 = 0) (H : post 1 ()) :
    wL_lawOf_124 post mc ms x1 x2 x3 x4 x5 1 1 1 kc ks (nI 1) 0 fd fr a1 a2 a3 a4 a5 a6 := by
  obtain ⟨a, ha, ea⟩ := pk_andE x1 (m := 31) 5 (by decide)
  obtain ⟨b', hb', eb'⟩ := pk_andE (x1 >>> ((5 : Int32) &&& 31)) (m := 127) 7 (by decide)
  obtain ⟨c', hc', ec'⟩ := pk_andE x2 (m := 127) 7 (by decide)
  have eb := pk_rem (a := b') (d := 61) (by omega) (by decide) (by decide)
  have ec := pk_rem (a := c') (d := 61) (by omega) (by decide) (by decide)
  have hb : b' % 61 < 61 := Nat.mod_lt _ (by decide)
  have hc : c' % 61 < 61 := Nat.mod_lt _ (by decide)
  generalize hbb : b' % 61 = b at eb hb
  generalize hcc : c' % 61 = c at ec hc
  rw [sp_nI] at ea
  rw [sp_nI b] at eb
  rw [sp_nI c] at ec
  have ha32 : a < 32 := ha
  have ha' : 0 ≤ (a : Int) ∧ (a : Int) ≤ 60 := ⟨by omega, by omega⟩
  have hb'' : 0 ≤ (b : Int) ∧ (b : Int) ≤ 60 := ⟨by omega, by omega⟩
  have h : sp_ok (sp_D a b b) 1 a1 := ⟨by decide, sp_DB ha' hb'' hb'', fun i j hi hj => by
    have ei : i = 0 := by omega
    have ej : j = 0 := by omega
    subst ei ej
    exact h0⟩
  unfold wL_lawOf_124
  refine br_t rfl (sp_index_bad (Or.inl (by decide)) (br_t rfl ?_))
  refine sp_edgeI (n := 1) (by decide) (br_t rfl ?_)
  refine sp_agreeing (m := 0) (n := 1) (by decide) (by decide) (fun k hk => sp_none k hk _) (br_t sp_ag1 (br_f sp_10 ?_))
  have n61 : ¬ (61 : Int32) = 0 := by decide
  refine nm_r ea ⟨n61, nm_r (e' := sp_I b) (by rw [eb']; exact eb) ⟨n61, nm_r (e' := sp_I c) (by rw [ec']; exact ec) ?_⟩⟩
  refine sp_distance (n := 1) (i := 0) (j := 0) h (by decide) (by decide) (br_t rfl ?_)
  refine sp_treeDist (E := []) (n := 1) (i := 0) (j := 0) (by decide) (by decide) (by decide) sp_H0 (by decide) (br_t rfl ?_)
  refine sp_together (E := []) (n := 1) (i := 0) (j := 0) (by decide) (by decide) (by decide) sp_H0 (by decide) (sp_paN _ _) (br_t rfl ?_)
  have e3 : ∀ i, i < 1 → sp_D a b b i 1 = a ∧ sp_D a b b 1 i = a := fun i hi => by
    have ei : i = 0 := by omega
    subst ei
    exact ⟨rfl, rfl⟩
  refine sp_pointI (n := 1) (by decide) (by omega) h rfl e3 (fun a1' h' => br_t rfl ?_)
  refine sp_distance (n := 2) (i := 1) (j := 0) h' (by decide) (by decide) (br_t rfl ?_)
  refine sp_set3 (n := 2) (i := 0) (j := 0) (by decide) (by decide) (by decide) (Or.inl rfl) (br_t rfl ?_)
  refine sp_index (n := 2) h' (by decide) sp_b12 sp_nb21 (sp_i12 ha') (br_t (sp_mul 2 a).symm ?_)
  refine sp_edges2 h' ha' (fun fr' a2' a3' a4' a5' hE => ?_)
  refine sp_cle a 0 ⟨by omega, by omega⟩ ⟨by decide, by decide⟩ (fun g => sp_L348 ha32 hb hc h' hE ?_ H) (fun g => sp_L348 ha32 hb hc h' hE ?_ H)
  · rw [sp_len2, sp_c0 g]
    rfl
  · rw [sp_len2, sp_c1 g]
    rfl
theorem sp_L24 {post : Int32 → St0 → Prop} {mc ms kc ks : Nat} {x0 x1 x2 x3 x4 x5 z0 fd fr : Int32} {a1 a2 a3 a4 a5 a6 : Nat → Int32} (hz : (z0 = 0 ∧ (x0 < 0 ∨ ¬ x0 ≤ 60)) ∨ (z0 = 1 ∧ ∃ d : Nat, d < 61 ∧ x0 = nI d)) (H : post 1 ()) :
    wL_lawOf_24 post mc ms x0 x1 x2 x3 x4 x5 z0 kc ks (nI 0) 0 fd fr a1 a2 a3 a4 a5 a6 := by
  have h := sp_okZ a1
  unfold wL_lawOf_24
  refine br_t rfl (br_t rfl (br_t rfl ?_))
  refine sp_edges0 (n := 0) (by decide) (br_t rfl ?_)
  refine sp_treelike (E := []) (n := 0) h sp_H0 (by decide) sp_paN (br_t rfl ?_)
  refine sp_span (E := []) (n := 0) (by decide) sp_H0 (by decide) sp_paN (br_t rfl ?_)
  refine sp_weight (E := []) sp_H0 (by decide) (br_t rfl ?_)
  refine sp_smooth0 (br_t rfl ?_)
  rcases hz with ⟨rfl, hx⟩ | ⟨rfl, d, hd, rfl⟩
  · refine sp_point_bad hx (br_t rfl ?_)
    unfold wL_lawOf_106
    exact br_t rfl (br_t rfl (sp_L124a H))
  · refine sp_point (n := 0) (by decide) hd h sp_ZB (fun _ _ _ _ => rfl) rfl (fun i hi => absurd hi (by omega)) (fun a1' h' => br_f sp_10 ?_)
    unfold wL_lawOf_106
    exact br_t rfl (br_f sp_10 (sp_L124b (h'.2.2 0 0 (by decide) (by decide)) H))
theorem sp_lawOf {post : Int32 → St0 → Prop} {p0 p1 p2 p3 p4 p5 : Int32} (H : post 1 ()) : wpL_lawOf post 74 1168 () p0 p1 p2 p3 p4 p5 := by
  unfold wpL_lawOf
  refine ⟨by decide, by decide, 73, 1158, by decide, by decide, ?_⟩
  refine ⟨by decide, by decide, by decide, by decide, by decide, by decide, by decide, by decide, by decide, by decide, by decide, by decide, ?_⟩
  refine br_c (fun g => ?_) (fun g => br_c (fun g' => ?_) (fun g' => ?_))
  · unfold wL_lawOf_23
    exact sp_L24 (Or.inl ⟨rfl, Or.inl g⟩) H
  · unfold wL_lawOf_23
    exact sp_L24 (Or.inl ⟨rfl, Or.inr (Int32.not_le.mpr g')⟩) H
  · obtain ⟨d, hd, e⟩ := nI_of2 (M := 60) (n := 60) (by decide) g (Int32.not_lt.mp g')
    exact sp_L24 (Or.inr ⟨rfl, d, by omega, e⟩) H
theorem sp_cell {post : Int32 → Prop} {L : Nat} {xs : Nat → Int32} (i : Nat) (hL : L ≤ 6) (hi : i < 6) (H : ∀ r, post r) : wpL_cellAt post L xs () (nI i) :=
  pk_le L i (fun _ => H 0) (fun g => ⟨vp_in_nI g (by omega), H _⟩)
theorem i_vc (xs : Nat → Int32) (L : Nat) (hL : L ≤ 6) : wpL_law (fun r => r = 1) L xs := by
  unfold wpL_law
  refine sp_cell 0 hL (by decide) (fun r1 => ?_)
  refine sp_cell 1 hL (by decide) (fun r2 => ?_)
  refine sp_cell 2 hL (by decide) (fun r3 => ?_)
  refine sp_cell 3 hL (by decide) (fun r4 => ?_)
  refine sp_cell 4 hL (by decide) (fun r5 => ?_)
  refine sp_cell 5 hL (by decide) (fun r6 => ?_)
  exact ⟨74, 1168, by decide, by decide, sp_lawOf rfl⟩
end
