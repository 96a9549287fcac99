section
/-! tables of the kinds, the template table, the word -/
def qb_T : Nat → Int32 := upd (upd (upd (upd (upd (upd (fun _ => 0) 0 145) 1 137) 2 273) 3 265) 4 289) 5 292
/-- what a claim has gathered of the templates below j -/
def qb_L (s u f : Int32) : Nat → Int32
  | 0 => 0
  | j + 1 => if ((f >>> (nI j &&& 31)) &&& 1) = 1 then (if (((qb_T j >>> ((3 * s) &&& 31)) &&& 7) &&& u) = 0 then qb_L s u f j else qb_L s u f j ||| ((1 : Int32) <<< (nI j &&& 31))) else qb_L s u f j
theorem qb_L_a {s u f : Int32} {j : Nat} (h : ¬ ((f >>> (nI j &&& 31)) &&& 1) = 1) : qb_L s u f (j + 1) = qb_L s u f j := by
  show (if ((f >>> (nI j &&& 31)) &&& 1) = 1 then _ else _) = _
  rw [if_neg h]
theorem qb_L_b {s u f : Int32} {j : Nat} (h : ((f >>> (nI j &&& 31)) &&& 1) = 1) (g : (((qb_T j >>> ((3 * s) &&& 31)) &&& 7) &&& u) = 0) : qb_L s u f (j + 1) = qb_L s u f j := by
  show (if ((f >>> (nI j &&& 31)) &&& 1) = 1 then _ else _) = _
  rw [if_pos h, if_pos g]
theorem qb_L_c {s u f : Int32} {j : Nat} (h : ((f >>> (nI j &&& 31)) &&& 1) = 1) (g : ¬ (((qb_T j >>> ((3 * s) &&& 31)) &&& 7) &&& u) = 0) : qb_L s u f (j + 1) = qb_L s u f j ||| ((1 : Int32) <<< (nI j &&& 31)) := by
  show (if ((f >>> (nI j &&& 31)) &&& 1) = 1 then _ else _) = _
  rw [if_pos h, if_neg g]
/-- units, slot, fitting templates, template, unit, number of a kind -/
def qb_un (k : Nat) : Nat := if k < 7 then (if k = 4 ∨ k = 5 then 2 else 3) else if k < 9 then 1 else 4
def qb_sl (k : Nat) : Nat := if k = 4 ∨ k = 5 then 1 else 0
def qb_F (k : Nat) : Nat := if k < 9 then (if k = 4 ∨ k = 5 then 5 else 31) else 32
def qb_t (k : Nat) : Nat := if k < 9 then 0 else 5
def qb_ut (k : Nat) : Nat := if k < 9 then (if k = 4 ∨ k = 5 then 2 else 1) else 4
def qb_nu (k : Nat) : Nat := if k < 7 then (if k = 4 ∨ k = 5 then k - 4 else if k = 6 then 6 else k + 2) else if k < 9 then k - 7 else k - 9
theorem qb_tabL : ∀ k, k < 11 → (qb_sl k = 0 ∧ qb_L 0 (nI (qb_un k)) 63 6 = nI (qb_F k) ∧ ¬ nI (qb_F k) = 0) ∨ (qb_sl k = 1 ∧ qb_L 0 (nI (qb_un k)) 63 6 = 0 ∧ qb_L 1 (nI (qb_un k)) 63 6 = nI (qb_F k) ∧ ¬ nI (qb_F k) = 0) := by decide +kernel
theorem qb_tabC : ∀ k, k < 11 → (∀ j, j < qb_t k → ((nI (qb_F k) >>> (nI j &&& 31)) &&& 1) = 0) ∧ (qb_t k < 5 → ¬ ((nI (qb_F k) >>> (nI (qb_t k) &&& 31)) &&& 1) = 0) := by decide +kernel
theorem qb_tabU : ∀ k, k < 11 → nI (qb_sl k) / 3 = 0 ∧ ((qb_T (qb_t k) >>> ((3 * (nI (qb_sl k) - 0 * 3)) &&& 31)) &&& 7) = nI (qb_ut k) := by decide +kernel
theorem qb_tabB : ∀ k, k < 11 → qb_sl k < 2 ∧ qb_t k < 6 ∧ qb_ut k < 5 ∧ qb_nu k < 7 ∧ (9 ≤ k → qb_sl k = 0) := by decide +kernel
theorem qb_tabN0 : ∀ k, k < 11 → (qb_ut k = 4 → nI k - 9 = nI (qb_nu k)) := by decide +kernel
theorem qb_tabN1 : ∀ k, k < 11 → (qb_ut k ≠ 4 → k < 7 → k = 4 → nI k - 4 = nI (qb_nu k)) := by decide +kernel
theorem qb_tabN2 : ∀ k, k < 11 → (qb_ut k ≠ 4 → k < 7 → k = 5 → nI k - 4 = nI (qb_nu k)) := by decide +kernel
theorem qb_tabN3 : ∀ k, k < 11 → (qb_ut k ≠ 4 → k < 7 → k = 6 → 6 = nI (qb_nu k)) := by decide +kernel
theorem qb_tabN4 : ∀ k, k < 11 → (k < 7 ∧ k ≠ 4 ∧ k ≠ 5 ∧ k ≠ 6 → nI k + 2 = nI (qb_nu k)) := by decide +kernel
theorem qb_tabN5 : ∀ k, k < 11 → (qb_ut k ≠ 4 → 7 ≤ k → nI k - 7 = nI (qb_nu k)) := by decide +kernel
theorem qb_tabN : ∀ k, k < 11 → (qb_ut k = 4 → nI k - 9 = nI (qb_nu k)) ∧ (qb_ut k ≠ 4 → k < 7 → k = 4 → nI k - 4 = nI (qb_nu k)) ∧ (qb_ut k ≠ 4 → k < 7 → k = 5 → nI k - 4 = nI (qb_nu k)) ∧ (qb_ut k ≠ 4 → k < 7 → k = 6 → 6 = nI (qb_nu k)) ∧ (k < 7 ∧ k ≠ 4 ∧ k ≠ 5 ∧ k ≠ 6 → nI k + 2 = nI (qb_nu k)) ∧ (qb_ut k ≠ 4 → 7 ≤ k → nI k - 7 = nI (qb_nu k)) := fun k h => ⟨qb_tabN0 k h, qb_tabN1 k h, qb_tabN2 k h, qb_tabN3 k h, qb_tabN4 k h, qb_tabN5 k h⟩
theorem qb_tabK0 : ∀ k, k < 11 → (qb_ut k = 4 → 9 + nI (qb_nu k) = nI k) := by decide +kernel
theorem qb_tabK1 : ∀ k, k < 11 → (qb_ut k ≠ 4 → 2 ≤ qb_nu k → qb_nu k = 6 → 6 = nI k) := by decide +kernel
theorem qb_tabK2 : ∀ k, k < 11 → (qb_ut k ≠ 4 → 2 ≤ qb_nu k → qb_nu k ≠ 6 → nI (qb_nu k) - 2 = nI k) := by decide +kernel
theorem qb_tabK3 : ∀ k, k < 11 → (qb_ut k ≠ 4 → qb_nu k < 2 → qb_ut k = 1 → 7 + nI (qb_nu k) = nI k) := by decide +kernel
theorem qb_tabK4 : ∀ k, k < 11 → (qb_ut k ≠ 4 → qb_nu k < 2 → qb_ut k ≠ 1 → 4 + nI (qb_nu k) = nI k) := by decide +kernel
theorem qb_tabK : ∀ k, k < 11 → (qb_ut k = 4 → 9 + nI (qb_nu k) = nI k) ∧ (qb_ut k ≠ 4 → 2 ≤ qb_nu k → qb_nu k = 6 → 6 = nI k) ∧ (qb_ut k ≠ 4 → 2 ≤ qb_nu k → qb_nu k ≠ 6 → nI (qb_nu k) - 2 = nI k) ∧ (qb_ut k ≠ 4 → qb_nu k < 2 → qb_ut k = 1 → 7 + nI (qb_nu k) = nI k) ∧ (qb_ut k ≠ 4 → qb_nu k < 2 → qb_ut k ≠ 1 → 4 + nI (qb_nu k) = nI k) := fun k h => ⟨qb_tabK0 k h, qb_tabK1 k h, qb_tabK2 k h, qb_tabK3 k h, qb_tabK4 k h⟩
/-! the word -/
theorem qb_or (a b : Nat) : nI a ||| nI b = nI (a ||| b) := by
  apply Int32.toBitVec_inj.1
  show BitVec.ofNat 32 a ||| BitVec.ofNat 32 b = BitVec.ofNat 32 (a ||| b)
  apply BitVec.eq_of_getLsbD_eq
  intro i hi
  simp [hi]
theorem qb_orp {a b k : Nat} (h : a < 2 ^ k) : nI a ||| nI (b * 2 ^ k) = nI (a + b * 2 ^ k) := by
  have h1 : a ||| b * 2 ^ k = a + b * 2 ^ k := by rw [Nat.or_comm, Nat.add_comm, ← Nat.shiftLeft_eq, Nat.shiftLeft_add_eq_or_of_lt h]
  rw [qb_or, h1]
def qb_w (n d a c : Nat) : Nat := n + 1 + d * 2 ^ 4 + a * 2 ^ 7 + c * 2 ^ 10
theorem qb_word {n d a c : Nat} (hn : n < 7) (hd : d < 8) (ha : a < 8) (hc : c < 256) : (((nI n + 1) ||| (nI d <<< ((4 : Int32) &&& 31))) ||| (nI a <<< ((7 : Int32) &&& 31))) ||| (nI c <<< ((10 : Int32) &&& 31)) = nI (qb_w n d a c) := by
  rw [nI_1, pk_shlN _ 4 (by decide) (by omega), pk_shlN _ 7 (by decide) (by omega), pk_shlN _ 10 (by decide) (by omega)]
  rw [qb_orp (by omega), qb_orp (by omega), qb_orp (by omega)]
  rfl
theorem qb_wlt {n d a c : Nat} (hn : n < 7) (hd : d < 8) (ha : a < 8) (hc : c < 256) : qb_w n d a c < 2 ^ 31 ∧ 0 < qb_w n d a c := by
  unfold qb_w; omega
theorem qb_w15 {n d a c : Nat} (hn : n < 7) (hd : d < 8) (ha : a < 8) (hc : c < 256) : (nI (qb_w n d a c) &&& 15) - 1 = nI n := by
  have hw := qb_wlt hn hd ha hc
  rw [pk_andN (by omega) 4 (by decide), show qb_w n d a c % 2 ^ 4 = n + 1 by unfold qb_w; omega, nI_pred]
theorem qb_w10 {n d a c : Nat} (hn : n < 7) (hd : d < 8) (ha : a < 8) (hc : c < 256) : nI (qb_w n d a c) >>> ((10 : Int32) &&& 31) = nI c := by
  have hw := qb_wlt hn hd ha hc
  rw [pk_shrN hw.1 _ 10 (by decide), show qb_w n d a c / 2 ^ 10 = c by unfold qb_w; omega]
theorem qb_w7 {n d a c : Nat} (hn : n < 7) (hd : d < 8) (ha : a < 8) (hc : c < 256) : (nI (qb_w n d a c) >>> ((7 : Int32) &&& 31)) &&& 7 = nI a := by
  have hw := qb_wlt hn hd ha hc
  rw [pk_shrN hw.1 _ 7 (by decide), pk_andN (by omega) 3 (by decide), show qb_w n d a c / 2 ^ 7 % 2 ^ 3 = a by unfold qb_w; omega]
theorem qb_w4 {n d a c : Nat} (hn : n < 7) (hd : d < 8) (ha : a < 8) (hc : c < 256) : (nI (qb_w n d a c) >>> ((4 : Int32) &&& 31)) &&& 7 = nI d := by
  have hw := qb_wlt hn hd ha hc
  rw [pk_shrN hw.1 _ 4 (by decide), pk_andN (by omega) 3 (by decide), show qb_w n d a c / 2 ^ 4 % 2 ^ 3 = d by unfold qb_w; omega]
theorem qb_w0 {n d a c : Nat} (hn : n < 7) (hd : d < 8) (ha : a < 8) (hc : c < 256) : ¬ nI (qb_w n d a c) = 0 := by
  have hw := qb_wlt hn hd ha hc
  exact nI_ne0 hw.2 hw.1
/-! stores -/
theorem qb_u1 {f : Nat → Int32} {k : Nat} (h : f 0 = 1) : upd f k 1 0 = 1 := by
  by_cases e : 0 = k
  · rw [← e, pk_us]
  · rw [pk_un e, h]
theorem qb_z {f : Nat → Int32} {i k : Nat} (hk : k = i) (h : ∀ j, j < i → f j = 0) : ∀ j, j < i + 1 → upd f k 0 j = 0 := by
  intro j hj
  rw [hk]
  by_cases e : j = i
  · rw [e, pk_us]
  · rw [pk_un e]
    exact h j (by omega)
theorem qb_fill {f s : Nat → Int32} {i k : Nat} {x : Int32} (hk : k = i) (h : ∀ j, j < i → s j = f j) (hx : x = f i) : ∀ j, j < i + 1 → upd s k x j = f j := by
  intro j hj
  rw [hk]
  by_cases e : j = i
  · rw [e, pk_us, hx]
  · rw [pk_un e]
    exact h j (by omega)
/-- what the one operation holds -/
def qb_In (k dn an c m : Nat) (a1 a2 a3 a4 : Nat → Int32) : Prop := k < 11 ∧ dn < 8 ∧ an < 8 ∧ c < 256 ∧ a1 0 = nI k ∧ a2 0 = nI dn ∧ a3 0 = nI an ∧ (k < 9 → a4 0 + 128 = nI c) ∧ (9 ≤ k → m < 25 ∧ a4 0 = nI m ∧ c = 128 + min m 1)
/-- the packed picture of the one operation -/
def qb_P (k dn an c : Nat) (a8 a9 a10 : Nat → Int32) : Prop := k < 11 ∧ dn < 8 ∧ an < 8 ∧ c < 256 ∧ a8 (qb_sl k) = nI (qb_w (qb_nu k) dn an c) ∧ (∀ j, j < 72 → j ≠ qb_sl k → a8 j = 0) ∧ (a9 (qb_sl k) = 0 ∨ a9 (qb_sl k) = 1) ∧ a10 0 = nI (qb_t k)
end
section
section
variable {ct bu pk op fr fi wr gs pc fs tk : Int32} {a1 a2 a3 a4 a5 a6 a7 a8 a9 a10 a11 a12 a13 a14 : Nat → Int32}
/-! findLeaders -/
theorem qb_fl31_0 {post : St2 → Prop} (H : post (0, bu, pk, op, fr, fi, wr, gs, pc, fs, tk, a1, a2, a3, a4, a5, a6, a7, a8, a9, a10, a11, a12, a13, a14)) : ∃ n, wX_findLeaders_31 post 0 bu pk op fr fi wr gs pc fs tk n 0 a1 a2 a3 a4 a5 a6 a7 a8 a9 a10 a11 a12 a13 a14 := ⟨1, br_t (by decide) H⟩
theorem qb_fl31_1 {post : St2 → Prop} {k m : Nat} (hk : k < 11) (h1 : a1 0 = nI k) (h4 : 9 ≤ k → m < 25 ∧ a4 0 = nI m) (h6 : a6 0 = 1) (H : ∀ g : Nat → Int32, g 0 = 1 → post (1, bu, pk, op, fr, fi, wr, gs, pc, fs, tk, a1, a2, a3, a4, a5, g, a7, a8, a9, a10, a11, a12, a13, a14)) : ∃ n, wX_findLeaders_31 post 1 bu pk op fr fi wr gs pc fs tk n 0 a1 a2 a3 a4 a5 a6 a7 a8 a9 a10 a11 a12 a13 a14 :=
  ⟨2, br_f (by decide) ⟨pk_in 0 24 (by omega), pk_lt k 9 (fun _ => nm_e (br_t (by decide) (H a6 h6)))
    (fun z => ⟨pk_in 0 24 (by omega), pk_le 1 m (fun _ => nm_e (br_t (by decide) (H a6 h6)))
      (fun _ => ⟨pk_in 0 24 (by omega), pk_in m 25 (h4 z).1 (h4 z).2, nm_e (nm_e (br_t (by decide) (H _ (qb_u1 h6))))⟩) rfl (h4 z).2 (by omega) (by have := (h4 z).1; omega)⟩) h1⟩⟩
theorem qb_fl2 {post : St2 → Prop} (H : ∀ g : Nat → Int32, g 0 = 1 → ∃ n, wX_findLeaders_31 post ct bu pk op fr fi wr gs pc fs tk n 0 a1 a2 a3 a4 a5 g a7 a8 a9 a10 a11 a12 a13 a14) : ∃ n, wX_findLeaders_2 post ct bu pk op fr fi wr gs pc fs tk n 0 a1 a2 a3 a4 a5 a6 a7 a8 a9 a10 a11 a12 a13 a14 :=
  pk_loop (fun n i s => wX_findLeaders_2 post ct bu pk op fr fi wr gs pc fs tk n (nI i) a1 a2 a3 a4 a5 s a7 a8 a9 a10 a11 a12 a13 a14) (fun i s => 0 < i → s 0 = 1) 25 0 a6 (by omega) (fun h => absurd h (by omega))
    (fun n s h => pk_lt 24 25 (fun _ => H s (h (by omega))) (fun z => absurd z (by omega)))
    (fun n i s hi h hw => pk_lt 24 i (fun z => absurd z (by omega)) (fun _ => pk_eq i 0
      (fun z => ⟨pk_in i 25 hi, nm_e (nm_r (nI_1 i) (hw _ (fun _ => by rw [nI_clamp (by omega), z]; exact pk_us)))⟩)
      (fun z => ⟨pk_in i 25 hi, nm_e (nm_r (nI_1 i) (hw _ (fun _ => by rw [nI_clamp (by omega), pk_un (by omega)]; exact h (by omega))))⟩)))
theorem qb_fl {post : St2 → Prop} (H : ∀ g : Nat → Int32, g 0 = 1 → ∃ n, wX_findLeaders_31 post ct bu pk op fr fi wr gs pc fs tk n 0 a1 a2 a3 a4 a5 g a7 a8 a9 a10 a11 a12 a13 a14) : wpX_findLeaders post (ct, bu, pk, op, fr, fi, wr, gs, pc, fs, tk, a1, a2, a3, a4, a5, a6, a7, a8, a9, a10, a11, a12, a13, a14) := qb_fl2 H
/-! the words and stops are cleared -/
theorem qb_p19 {post : St2 → Prop} (H : ∀ w q : Nat → Int32, (∀ j, j < 72 → w j = 0) → (∀ j, j < 72 → q j = 0) → ∃ n, wX_pack_67 post n 0 ct 0 pk (-1) fr fi 0 0 pc fs tk a1 a2 a3 a4 a5 a6 a7 w q a10 a11 a12 a13 a14) : ∃ n, wX_pack_19 post ct bu pk op fr fi wr gs pc fs tk n 0 a1 a2 a3 a4 a5 a6 a7 a8 a9 a10 a11 a12 a13 a14 :=
  pk_loop (σ := (Nat → Int32) × (Nat → Int32)) (fun n i s => wX_pack_19 post ct bu pk op fr fi wr gs pc fs tk n (nI i) a1 a2 a3 a4 a5 a6 a7 s.1 s.2 a10 a11 a12 a13 a14) (fun i s => (∀ j, j < i → s.1 j = 0) ∧ (∀ j, j < i → s.2 j = 0)) 72 0 (a8, a9) (by omega) ⟨fun j h => absurd h (by omega), fun j h => absurd h (by omega)⟩
    (fun n s h => pk_le 72 72 (fun _ => H s.1 s.2 h.1 h.2) (fun z => absurd z (by omega)))
    (fun n i s hi h hw => pk_le 72 i (fun z => absurd z (by omega)) (fun _ => ⟨pk_in i 72 hi, nm_e ⟨pk_in i 72 hi, nm_e (nm_r (nI_1 i) (hw (upd s.1 (nI i).toNatClampNeg 0, upd s.2 (nI i).toNatClampNeg 0) ⟨qb_z (nI_clamp (by omega)) h.1, qb_z (nI_clamp (by omega)) h.2⟩))⟩⟩))
/-- pack with no operation -/
theorem qb_pk0 {post : St2 → Prop} (H : ∀ g w q : Nat → Int32, post (0, 0, 1, -1, fr, fi, 0, 0, pc, fs, tk, a1, a2, a3, a4, a5, g, a7, w, q, a10, a11, a12, a13, a14)) : wpX_pack post (0, bu, 0, op, fr, fi, wr, gs, pc, fs, tk, a1, a2, a3, a4, a5, a6, a7, a8, a9, a10, a11, a12, a13, a14) :=
  br_t rfl (qb_fl (fun g _ => qb_fl31_0 (qb_p19 (fun w q _ _ => ⟨1, br_t (by decide) (br_f (by decide) ⟨1, br_t (by decide) (H g w q)⟩)⟩))))
/-! claim, putIntoSlot, closeBundle -/
theorem qb_claim {post : Int32 → St2 → Prop} {s u : Int32} (H0 : qb_L s u fi 6 = 0 → post 0 (ct, bu, pk, op, fr, fi, wr, gs, pc, fs, tk, a1, a2, a3, a4, qb_T, a6, a7, a8, a9, a10, a11, a12, a13, a14)) (H1 : ¬ qb_L s u fi 6 = 0 → post 1 (ct, bu, pk, op, s + 1, qb_L s u fi 6, wr, gs, pc, fs, tk, a1, a2, a3, a4, qb_T, a6, upd a7 0 (3 * op + s), a8, a9, a10, a11, a12, a13, a14)) : wpX_claim post (ct, bu, pk, op, fr, fi, wr, gs, pc, fs, tk, a1, a2, a3, a4, qb_T, a6, a7, a8, a9, a10, a11, a12, a13, a14) 0 s u :=
  pk_loop (σ := Unit) (fun n i _ => wX_claim_6 post 0 s u ct bu pk op fr fi wr gs pc fs tk a1 a2 a3 a4 qb_T a6 a7 a8 a9 a10 a11 a12 a13 a14 n (qb_L s u fi i) (nI i)) (fun _ _ => True) 6 0 () (by omega) trivial
    (fun n _ _ => pk_le 6 6 (fun _ => br_c H0 (fun z => nm_e ⟨pk_in 0 24 (by omega), nm_e (H1 z)⟩)) (fun z => absurd z (by omega)))
    (fun n i _ hi _ hw => by
      have t : wX_claim_6 post 0 s u ct bu pk op fr fi wr gs pc fs tk a1 a2 a3 a4 qb_T a6 a7 a8 a9 a10 a11 a12 a13 a14 n (qb_L s u fi (i + 1)) (nI (i + 1)) := hw () trivial
      refine pk_le 6 i (fun z => absurd z (by omega)) (fun _ => ⟨pk_in i 6 hi, nm_r (e' := (qb_T i >>> ((3 * s) &&& 31)) &&& 7) (by rw [nI_clamp (by omega)]) (br_c (fun z => br_c (fun y => nm_r (nI_1 i) ?_) (fun y => nm_e (nm_r (nI_1 i) ?_))) (fun z => nm_r (nI_1 i) ?_))⟩)
      · rw [qb_L_b z y] at t; exact t
      · rw [qb_L_c z y] at t; exact t
      · rw [qb_L_a z] at t; exact t)
theorem qb_units {post : Int32 → Prop} {k : Nat} {x : Int32} (hk : k < 11) (hx : x = nI k) (H : post (nI (qb_un k))) : wpX_unitsFor post () x := by
  have e1 : k < 9 → k < 7 → k = 4 → qb_un k = 2 := fun _ h1 h2 => by rw [h2]; rfl
  have e2 : k < 9 → k < 7 → k = 5 → qb_un k = 2 := fun _ h1 h2 => by rw [h2]; rfl
  have e3 : k < 9 → k < 7 → k ≠ 4 → k ≠ 5 → qb_un k = 3 := fun _ h1 h2 h3 => by unfold qb_un; rw [if_pos h1, if_neg (by omega)]
  have e4 : k < 9 → 7 ≤ k → qb_un k = 1 := fun h h1 => by unfold qb_un; rw [if_neg (by omega), if_pos h]
  have e5 : 9 ≤ k → qb_un k = 4 := fun h => by unfold qb_un; rw [if_neg (by omega), if_neg (by omega)]
  refine pk_lt k 9 (fun z => pk_lt k 7 (fun y => pk_eq k 4 (fun x => ?_) (fun x => pk_eq k 5 (fun w => ?_) (fun w => ?_) hx) hx) (fun y => ?_) hx) (fun z => ?_) hx
  · rw [e1 z y x] at H; exact H
  · rw [e2 z y w] at H; exact H
  · rw [e3 z y x w] at H; exact H
  · rw [e4 z y] at H; exact H
  · rw [e5 z] at H; exact H
theorem qb_put {post : St2 → Prop} {k : Nat} (hk : k < 11) (h1 : a1 0 = nI k) (H : ∀ fr : Int32, post (ct, 1, pk, 0, fr, nI (qb_F k), wr, gs, pc, fs, tk, a1, a2, a3, a4, qb_T, a6, upd a7 0 (nI (qb_sl k)), a8, a9, a10, a11, a12, a13, a14)) : wpX_putIntoSlot post (ct, 0, pk, -1, fr, fi, wr, gs, pc, fs, tk, a1, a2, a3, a4, qb_T, a6, a7, a8, a9, a10, a11, a12, a13, a14) 0 := by
  refine ⟨pk_in 0 24 (by omega), qb_units hk h1 (br_t (by decide) (nm_r (e' := 1) (by decide) ?_))⟩
  rcases qb_tabL k hk with ⟨e1, e2, e3⟩ | ⟨e1, e2, e3, e4⟩
  · refine ⟨1, br_f (by decide) (qb_claim (fun z => absurd z (by rw [e2]; exact e3)) (fun _ => br_f (by decide) ?_))⟩
    have t := H (0 + 1)
    rw [e1, ← e2] at t
    exact t
  · refine ⟨2, br_f (by decide) (qb_claim (fun _ => br_t rfl (nm_r (e' := 1) (by decide) (br_f (by decide) (qb_claim (fun z => absurd z (by rw [e3]; exact e4)) (fun _ => br_f (by decide) ?_))))) (fun z => absurd e2 z))⟩
    have t := H (1 + 1)
    rw [e1, ← e3] at t
    exact t
theorem qb_cb {post : St2 → Prop} {d : Nat} (hd : d ≤ 5) (h1 : ∀ j, j < d → ((fi >>> (nI j &&& 31)) &&& 1) = 0) (h2 : d < 5 → ¬ ((fi >>> (nI d &&& 31)) &&& 1) = 0) (H : post (ct, bu, pk, -1, fr, fi, wr, gs, pc, fs, tk, a1, a2, a3, a4, a5, a6, a7, a8, a9, upd a10 0 (nI d), a11, a12, a13, a14)) : wpX_closeBundle post (ct, bu, pk, 0, fr, fi, wr, gs, pc, fs, tk, a1, a2, a3, a4, a5, a6, a7, a8, a9, a10, a11, a12, a13, a14) :=
  br_t (by decide) (pk_loop (σ := Unit) (fun n i _ => wX_closeBundle_10 post ct bu pk 0 fr fi wr gs pc fs tk a1 a2 a3 a4 a5 a6 a7 a8 a9 a10 a11 a12 a13 a14 n (nI i)) (fun _ _ => True) d 0 () (by omega) trivial
    (fun n _ _ => pk_le 5 d (fun _ => ⟨pk_in 0 24 (by omega), nm_e H⟩) (fun z => br_f (h2 z) ⟨pk_in 0 24 (by omega), nm_e H⟩))
    (fun n i _ hi _ hw => pk_le 5 i (fun z => absurd z (by omega)) (fun _ => br_t (h1 i hi) (nm_r (nI_1 i) (hw () trivial)))))
/-! the unit of a slot; the code -/
theorem qb_unit {post : Int32 → Prop} {k : Nat} (hk : k < 11) (h10 : a10 0 = nI (qb_t k)) (H : post (nI (qb_ut k))) : wpX_unitAt post (ct, bu, pk, op, fr, fi, wr, gs, pc, fs, tk, a1, a2, a3, a4, qb_T, a6, a7, a8, a9, a10, a11, a12, a13, a14) (nI (qb_sl k)) := by
  have e := qb_tabU k hk
  have b := qb_tabB k hk
  refine ⟨by decide, by rw [e.1]; exact pk_in 0 24 (by omega), by rw [e.1]; exact pk_in (qb_t k) 6 b.2.1 h10, by decide, ?_⟩
  have e2 : ((qb_T (a10 (nI (qb_sl k) / 3).toNatClampNeg).toNatClampNeg >>> ((3 * (nI (qb_sl k) - nI (qb_sl k) / 3 * 3)) &&& 31)) &&& 7) = nI (qb_ut k) := by
    rw [e.1, sb_cl0, h10, nI_clamp (by omega)]
    exact e.2
  exact ek_v (P := post) e2 H
theorem qb_c129 {post : St2 → Prop} {sl nu dn an c : Nat} {x : Int32} (hs : sl < 2) (hn : nu < 7) (hd : dn < 8) (ha : an < 8) (hc : c < 256) (h2 : a2 0 = nI dn) (h3 : a3 0 = nI an) (hx : x + 128 = nI c) (H : post (ct, bu, pk, op, fr, fi, wr, gs, pc, fs, tk, a1, a2, a3, a4, a5, a6, a7, upd a8 sl (nI (qb_w nu dn an c)), a9, a10, a11, a12, a13, a14)) : wX_code_129 post 0 (nI sl) (nI nu) x ct bu pk op fr fi wr gs pc fs tk a1 a2 a3 a4 a5 a6 a7 a8 a9 a10 a11 a12 a13 a14 := by
  refine ⟨pk_in 0 24 (by omega), pk_in 0 24 (by omega), pk_in sl 72 (by omega), nm_r (e' := upd a8 sl (nI (qb_w nu dn an c))) ?_ H⟩
  show upd a8 (nI sl).toNatClampNeg ((((nI nu + 1) ||| ((a2 0) <<< ((4 : Int32) &&& 31))) ||| ((a3 0) <<< ((7 : Int32) &&& 31))) ||| ((x + 128) <<< ((10 : Int32) &&& 31))) = _
  rw [h2, h3, hx, nI_clamp (by omega), qb_word hn hd ha hc]
theorem qb_c88 {post : St2 → Prop} {k dn an c m : Nat} (hi : qb_In k dn an c m a1 a2 a3 a4) (h7 : a7 0 = nI (qb_sl k)) (H : post (1, 1, pk, op, fr, fi, wr, gs, pc, fs, tk, a1, a2, a3, a4, a5, a6, a7, upd a8 (qb_sl k) (nI (qb_w (qb_nu k) dn an c)), a9, a10, a11, a12, a13, a14)) : wX_code_88 post 0 (nI k) (nI (qb_sl k)) (nI (qb_nu k)) 1 1 pk op fr fi wr gs pc fs tk a1 a2 a3 a4 a5 a6 a7 a8 a9 a10 a11 a12 a13 a14 := by
  obtain ⟨hk, hd, ha, hc, h1, h2, h3, hb, hb9⟩ := hi
  have b := qb_tabB k hk
  refine ⟨pk_in 0 24 (by omega), nm_r (e' := a4 0) rfl (pk_lt k 9 (fun z => qb_c129 b.1 b.2.2.2.1 hd ha hc h2 h3 (hb z) H) (fun z => ?_))⟩
  obtain ⟨g1, g2, g3⟩ := hb9 z
  refine pk_le 1 m (fun y => qb_c129 b.1 b.2.2.2.1 hd ha hc h2 h3 (by rw [g3, show min m 1 = 1 by omega]; rfl) H) (fun y => ⟨pk_in m 24 (by omega) g2, by decide, qb_c129 b.1 b.2.2.2.1 hd ha hc h2 h3 ?_ H⟩) rfl g2
  rw [g2, show m = 0 by omega, nI_clamp (by omega), h7, b.2.2.2.2 z, g3, show min m 1 = 0 by omega]
  decide
theorem qb_code {post : St2 → Prop} {k dn an c m : Nat} (hi : qb_In k dn an c m a1 a2 a3 a4) (h7 : a7 0 = nI (qb_sl k)) (h10 : a10 0 = nI (qb_t k)) (H : post (1, 1, pk, op, fr, fi, wr, gs, pc, fs, tk, a1, a2, a3, a4, qb_T, a6, a7, upd a8 (qb_sl k) (nI (qb_w (qb_nu k) dn an c)), a9, a10, a11, a12, a13, a14)) : wpX_code post (1, 1, pk, op, fr, fi, wr, gs, pc, fs, tk, a1, a2, a3, a4, qb_T, a6, a7, a8, a9, a10, a11, a12, a13, a14) 0 := by
  have hk := hi.1
  have h1 := hi.2.2.2.2.1
  have b := qb_tabB k hk
  have N := qb_tabN k hk
  have F : wX_code_88 post 0 (nI k) (nI (qb_sl k)) (nI (qb_nu k)) 1 1 pk op fr fi wr gs pc fs tk a1 a2 a3 a4 qb_T a6 a7 a8 a9 a10 a11 a12 a13 a14 := qb_c88 hi h7 H
  refine ⟨pk_in 0 24 (by omega), nm_r (e' := nI k) h1 ⟨pk_in 0 24 (by omega), nm_r (e' := nI (qb_sl k)) h7 (qb_unit hk h10 (pk_eq (qb_ut k) 4 (fun z => nm_r (N.1 z) F) (fun z => pk_lt k 7 (fun y => pk_eq k 4 (fun x => nm_r (N.2.1 z y x) F) (fun x => pk_eq k 5 (fun w => nm_r (N.2.2.1 z y w) F) (fun w => pk_eq k 6 (fun v => ?_) (fun v => ?_)))) (fun y => nm_r (N.2.2.2.2.2 z y) F))))⟩⟩
  · rw [← N.2.2.2.1 z y v] at F; exact F
  · rw [← N.2.2.2.2.1 ⟨y, x, w, v⟩] at F; exact F
/-! pack with one operation -/
theorem qb_fin {post : St2 → Prop} {k dn an c m : Nat} (hi : qb_In k dn an c m a1 a2 a3 a4) (h7 : a7 0 = nI (qb_sl k)) (H : ∀ a10 : Nat → Int32, a10 0 = nI (qb_t k) → post (1, 1, pk, -1, fr, nI (qb_F k), wr, gs, pc, fs, tk, a1, a2, a3, a4, qb_T, a6, a7, upd a8 (qb_sl k) (nI (qb_w (qb_nu k) dn an c)), a9, a10, a11, a12, a13, a14)) : wX_pack_67 post 1 (0 + 1) 1 1 pk 0 fr (nI (qb_F k)) wr gs pc fs tk a1 a2 a3 a4 qb_T a6 a7 a8 a9 a10 a11 a12 a13 a14 := by
  have hk := hi.1
  have C := qb_tabC k hk
  have b := qb_tabB k hk
  exact br_t (by decide) (qb_cb (d := qb_t k) (by omega) C.1 C.2 ⟨2, br_f (by decide) (qb_code hi h7 pk_us (nm_e (br_t (by decide) (H _ pk_us))))⟩)
theorem qb_142 {post : St2 → Prop} {k dn an c m : Nat} (hi : qb_In k dn an c m a1 a2 a3 a4) (h7 : a7 0 = nI (qb_sl k)) (h8 : ∀ j, j < 72 → a8 j = 0) (h9 : ∀ j, j < 72 → a9 j = 0) (H : ∀ (wr gs : Int32) (a8 a9 a10 : Nat → Int32), qb_P k dn an c a8 a9 a10 → post (1, 1, pk, -1, fr, nI (qb_F k), wr, gs, pc, fs, tk, a1, a2, a3, a4, qb_T, a6, a7, a8, a9, a10, a11, a12, a13, a14)) : wX_pack_142 post (wX_pack_67 post 1) 0 1 1 pk 0 fr (nI (qb_F k)) wr gs pc fs tk a1 a2 a3 a4 qb_T a6 a7 a8 a9 a10 a11 a12 a13 a14 := by
  have hi' := hi
  obtain ⟨hk, hd, ha, hc, h1, h2, h3, hb, hb9⟩ := hi'
  have b := qb_tabB k hk
  have W : ∀ j, j < 72 → j ≠ qb_sl k → upd a8 (qb_sl k) (nI (qb_w (qb_nu k) dn an c)) j = 0 := fun j hj n => by rw [pk_un n]; exact h8 j hj
  refine ⟨pk_in 0 24 (by omega), pk_lt k 9 (fun z => nm_e (qb_fin hi h7 (fun x hx => H _ _ _ _ _ ⟨hk, hd, ha, hc, pk_us, W, Or.inl (h9 _ (by omega)), hx⟩))) (fun z => br_f (by decide) ⟨pk_in 0 24 (by omega), pk_in (qb_sl k) 72 (by omega) h7, nm_r (e' := upd a9 (qb_sl k) 1) ?_ (nm_e (qb_fin hi h7 (fun x hx => H _ _ _ _ _ ⟨hk, hd, ha, hc, pk_us, W, Or.inr pk_us, hx⟩)))⟩) h1⟩
  show upd a9 (a7 0).toNatClampNeg 1 = _
  rw [h7, nI_clamp (by omega)]
theorem qb_p67 {post : St2 → Prop} {k dn an c m : Nat} (hi : qb_In k dn an c m a1 a2 a3 a4) (h6 : a6 0 = 1) (h8 : ∀ j, j < 72 → a8 j = 0) (h9 : ∀ j, j < 72 → a9 j = 0) (H : ∀ (fr fi wr gs : Int32) (a7 a8 a9 a10 : Nat → Int32), qb_P k dn an c a8 a9 a10 → post (1, 1, pk, -1, fr, fi, wr, gs, pc, fs, tk, a1, a2, a3, a4, qb_T, a6, a7, a8, a9, a10, a11, a12, a13, a14)) : ∃ n, wX_pack_67 post n 0 1 0 pk (-1) fr fi 0 0 pc fs tk a1 a2 a3 a4 qb_T a6 a7 a8 a9 a10 a11 a12 a13 a14 := by
  have hk := hi.1
  have h1 := hi.2.2.2.2.1
  refine ⟨2, br_f (by decide) ⟨pk_in 0 25 (by omega), br_f (fun e => absurd (h6.symm.trans e) (by decide)) (br_f (by decide) (br_t (by decide) (qb_put hk h1 (fun fr' => ⟨pk_in 0 24 (by omega), pk_lt 7 k (fun _ => ?_) (fun _ => ⟨pk_in 0 24 (by omega), nm_e ?_⟩) rfl h1⟩))))⟩⟩
  · exact qb_142 hi pk_us h8 h9 (fun wr gs a8 a9 a10 hP => H _ _ _ _ _ _ _ _ hP)
  · exact qb_142 hi pk_us h8 h9 (fun wr gs a8 a9 a10 hP => H _ _ _ _ _ _ _ _ hP)
theorem qb_pk1 {post : St2 → Prop} {k dn an c m : Nat} (hi : qb_In k dn an c m a1 a2 a3 a4) (H : ∀ (fr fi wr gs : Int32) (a6 a7 a8 a9 a10 : Nat → Int32), qb_P k dn an c a8 a9 a10 → post (1, 1, 1, -1, fr, fi, wr, gs, pc, fs, tk, a1, a2, a3, a4, qb_T, a6, a7, a8, a9, a10, a11, a12, a13, a14)) : wpX_pack post (1, bu, 0, op, fr, fi, wr, gs, pc, fs, tk, a1, a2, a3, a4, qb_T, a6, a7, a8, a9, a10, a11, a12, a13, a14) :=
  br_t rfl (qb_fl (fun g hg => qb_fl31_1 hi.1 hi.2.2.2.2.1 (fun z => ⟨(hi.2.2.2.2.2.2.2.2 z).1, (hi.2.2.2.2.2.2.2.2 z).2.1⟩) hg (fun g' hg' => qb_p19 (fun w q hw hq => qb_p67 hi hg' hw hq (fun fr fi wr gs a7 a8 a9 a10 hP => H _ _ _ _ _ _ _ _ _ hP)))))
end
end
section
section
variable {ct bu pk op fr fi wr gs pc fs tk : Int32} {a1 a2 a3 a4 a5 a6 a7 a8 a9 a10 a11 a12 a13 a14 : Nat → Int32}
theorem qb_3 {x : Int32} {B : Nat} (h : x = nI B) : 3 * x = nI (3 * B) := by rw [h]; exact pk_mul 3 B
/-! reads of the packed picture -/
theorem qb_Pn {k dn an c : Nat} (hP : qb_P k dn an c a8 a9 a10) : ¬ a8 (qb_sl k) = 0 := by
  obtain ⟨hk, hd, ha, hc, h8, hz, h9, h10⟩ := hP
  rw [h8]; exact qb_w0 (qb_tabB k hk).2.2.2.1 hd ha hc
theorem qb_dest {post : Int32 → Prop} {k dn an c : Nat} (hP : qb_P k dn an c a8 a9 a10) (H : post (nI dn)) : wpX_destAt post (ct, bu, pk, op, fr, fi, wr, gs, pc, fs, tk, a1, a2, a3, a4, a5, a6, a7, a8, a9, a10, a11, a12, a13, a14) (nI (qb_sl k)) := by
  obtain ⟨hk, hd, ha, hc, h8, hz, h9, h10⟩ := hP
  have b := qb_tabB k hk
  refine ⟨pk_in (qb_sl k) 72 (by omega), ek_v (P := post) ?_ H⟩
  rw [nI_clamp (by omega), h8]; exact qb_w4 b.2.2.2.1 hd ha hc
theorem qb_first {post : Int32 → Prop} {k dn an c : Nat} (hP : qb_P k dn an c a8 a9 a10) (H : post (nI an)) : wpX_firstAt post (ct, bu, pk, op, fr, fi, wr, gs, pc, fs, tk, a1, a2, a3, a4, a5, a6, a7, a8, a9, a10, a11, a12, a13, a14) (nI (qb_sl k)) := by
  obtain ⟨hk, hd, ha, hc, h8, hz, h9, h10⟩ := hP
  have b := qb_tabB k hk
  refine ⟨pk_in (qb_sl k) 72 (by omega), ek_v (P := post) ?_ H⟩
  rw [nI_clamp (by omega), h8]; exact qb_w7 b.2.2.2.1 hd ha hc
theorem qb_second {post : Int32 → Prop} {k dn an c : Nat} (hP : qb_P k dn an c a8 a9 a10) (H : post (nI c - 128)) : wpX_secondAt post (ct, bu, pk, op, fr, fi, wr, gs, pc, fs, tk, a1, a2, a3, a4, a5, a6, a7, a8, a9, a10, a11, a12, a13, a14) (nI (qb_sl k)) := by
  obtain ⟨hk, hd, ha, hc, h8, hz, h9, h10⟩ := hP
  have b := qb_tabB k hk
  refine ⟨pk_in (qb_sl k) 72 (by omega), ek_v (P := post) ?_ H⟩
  rw [nI_clamp (by omega), h8, qb_w10 b.2.2.2.1 hd ha hc]
theorem qb_kindAt {post : Int32 → Prop} {k dn an c : Nat} (hP : qb_P k dn an c a8 a9 a10) (H : post (nI k)) : wpX_kindAt post (ct, bu, pk, op, fr, fi, wr, gs, pc, fs, tk, a1, a2, a3, a4, qb_T, a6, a7, a8, a9, a10, a11, a12, a13, a14) (nI (qb_sl k)) := by
  obtain ⟨hk, hd, ha, hc, h8, hz, h9, h10⟩ := hP
  have b := qb_tabB k hk
  have K := qb_tabK k hk
  refine ⟨pk_in (qb_sl k) 72 (by omega), nm_r (e' := nI (qb_nu k)) ?_ (qb_unit hk h10 (pk_eq (qb_ut k) 4 (fun z => ek_v (P := post) (K.1 z) H) (fun z => pk_le 2 (qb_nu k) (fun y => pk_eq (qb_nu k) 6 (fun x => ek_v (P := post) (K.2.1 z y x) H) (fun x => ek_v (P := post) (K.2.2.1 z y x) H)) (fun y => pk_eq (qb_ut k) 1 (fun x => ek_v (P := post) (K.2.2.2.1 z y x) H) (fun x => ek_v (P := post) (K.2.2.2.2 z y x) H)))))⟩
  rw [nI_clamp (by omega), h8]; exact qb_w15 b.2.2.2.1 hd ha hc
theorem qb_rs {post : Int32 → Prop} {k dn an c : Nat} (hP : qb_P k dn an c a8 a9 a10) (H : post (nI (qb_sl k))) : wpX_realSlot post (ct, 1, pk, op, fr, fi, wr, gs, pc, fs, tk, a1, a2, a3, a4, a5, a6, a7, a8, a9, a10, a11, a12, a13, a14) 0 := by
  have hn := qb_Pn hP
  obtain ⟨hk, hd, ha, hc, h8, hz, h9, h10⟩ := hP
  have b := qb_tabB k hk
  exact pk_loop (σ := Unit) (fun n i _ => wX_realSlot_4 post ct 1 pk op fr fi wr gs pc fs tk a1 a2 a3 a4 a5 a6 a7 a8 a9 a10 a11 a12 a13 a14 n 0 (nI i)) (fun _ _ => True) (qb_sl k) 0 () (by omega) trivial
    (fun n _ _ => pk_le 3 (qb_sl k) (fun z => absurd z (by omega)) (fun _ => ⟨pk_in (qb_sl k) 72 (by omega), br_f (by rw [nI_clamp (by omega)]; exact hn) (br_t rfl H)⟩))
    (fun n i _ hi _ hw => pk_le 3 i (fun z => absurd z (by omega)) (fun _ => ⟨pk_in i 72 (by omega), br_t (by rw [nI_clamp (by omega)]; exact hz i (by omega) (by omega)) (nm_r (nI_1 i) (hw () trivial))⟩))
theorem qb_rb {post : Int32 → Prop} {m B e sl : Nat} (hm : m < 2 ^ 31) (hB : B ≤ 1) (hbu : bu = nI B) (he : e = min m (3 * B)) (hz : ∀ j, j < e → j ≠ sl → a8 j = 0) (hn : sl < e → ¬ a8 sl = 0) (H : post (nI (if sl < e then 1 else 0))) : wpX_realsBefore post (ct, bu, pk, op, fr, fi, wr, gs, pc, fs, tk, a1, a2, a3, a4, a5, a6, a7, a8, a9, a10, a11, a12, a13, a14) (nI m) := by
  have L : ∃ n, wX_realsBefore_4 post (nI m) ct bu pk op fr fi wr gs pc fs tk a1 a2 a3 a4 a5 a6 a7 a8 a9 a10 a11 a12 a13 a14 n (nI (if sl < 0 then 1 else 0)) (nI 0) :=
    pk_loop (σ := Unit) (fun n i _ => wX_realsBefore_4 post (nI m) ct bu pk op fr fi wr gs pc fs tk a1 a2 a3 a4 a5 a6 a7 a8 a9 a10 a11 a12 a13 a14 n (nI (if sl < i then 1 else 0)) (nI i)) (fun _ _ => True) e 0 () (by omega) trivial
    (fun n _ _ => pk_le m e (fun _ => H) (fun z => pk_le (3 * B) e (fun _ => H) (fun y => absurd y (by omega)) (qb_3 hbu)))
    (fun n i _ hi _ hw => by
      have t : wX_realsBefore_4 post (nI m) ct bu pk op fr fi wr gs pc fs tk a1 a2 a3 a4 a5 a6 a7 a8 a9 a10 a11 a12 a13 a14 n (nI (if sl < i + 1 then 1 else 0)) (nI (i + 1)) := hw () trivial
      refine pk_le m i (fun z => absurd z (by omega)) (fun _ => pk_le (3 * B) i (fun z => absurd z (by omega)) (fun _ => ⟨pk_in i 72 (by omega), ?_⟩) (qb_3 hbu))
      by_cases q : i = sl
      · refine br_f (by rw [nI_clamp (by omega), q]; exact hn (by omega)) (nm_r (e' := nI (if sl < i + 1 then 1 else 0)) ?_ (nm_r (nI_1 i) t))
        rw [if_neg (by omega), if_pos (by omega)]; rfl
      · refine br_t (by rw [nI_clamp (by omega)]; exact hz i hi q) (nm_r (nI_1 i) ?_)
        have e2 : (if sl < i then 1 else 0) = (if sl < i + 1 then 1 else 0) := by
          by_cases p : sl < i
          · rw [if_pos p, if_pos (by omega)]
          · rw [if_neg p, if_neg (by omega)]
        rw [e2]; exact t)
  rw [if_neg (by omega)] at L
  exact L
theorem qb_se {post : St2 → Prop} {p q B : Nat} (hB : B ≤ 1) (hbu : bu = nI B) (hpq : p ≤ q) (hq : q ≤ 3 * B) (hz : ∀ j, p ≤ j → j < q → a8 j = 0) (hn : q < 3 * B → ¬ a8 q = 0) (H : post (ct, bu, pk, op, fr, fi, wr, gs, nI q, fs, tk, a1, a2, a3, a4, a5, a6, a7, a8, a9, a10, a11, a12, a13, a14)) : wpX_skipEmpty post (ct, bu, pk, op, fr, fi, wr, gs, nI p, fs, tk, a1, a2, a3, a4, a5, a6, a7, a8, a9, a10, a11, a12, a13, a14) :=
  pk_loop (σ := Unit) (fun n i _ => wX_skipEmpty_0 post ct bu pk op fr fi wr gs fs tk a1 a2 a3 a4 a5 a6 a7 a8 a9 a10 a11 a12 a13 a14 n (nI i)) (fun i _ => p ≤ i) q p () hpq (Nat.le_refl p)
    (fun n _ _ => pk_le (3 * B) q (fun _ => H) (fun z => ⟨pk_in q 72 (by omega), br_f (by rw [nI_clamp (by omega)]; exact hn z) H⟩) (qb_3 hbu))
    (fun n i _ hi hI hw => pk_le (3 * B) i (fun z => absurd z (by omega)) (fun _ => ⟨pk_in i 72 (by omega), br_t (by rw [nI_clamp (by omega)]; exact hz i hI hi) (nm_r (nI_1 i) (hw () (Nat.le_succ_of_le hI)))⟩) (qb_3 hbu))
/-- the same two over the packed picture -/
theorem qb_rbP {post : Int32 → Prop} {k dn an c m : Nat} (hP : qb_P k dn an c a8 a9 a10) (hm : m ≤ 3) (H : post (nI (if qb_sl k < m then 1 else 0))) : wpX_realsBefore post (ct, 1, pk, op, fr, fi, wr, gs, pc, fs, tk, a1, a2, a3, a4, a5, a6, a7, a8, a9, a10, a11, a12, a13, a14) (nI m) :=
  qb_rb (B := 1) (e := m) (sl := qb_sl k) (by omega) (by omega) rfl (by omega) (fun j hj n => hP.2.2.2.2.2.1 j (by omega) n) (fun _ => qb_Pn hP) H
theorem qb_seS {post : St2 → Prop} {k dn an c : Nat} (hP : qb_P k dn an c a8 a9 a10) (H : post (ct, 1, pk, op, fr, fi, wr, gs, nI (qb_sl k), fs, tk, a1, a2, a3, a4, a5, a6, a7, a8, a9, a10, a11, a12, a13, a14)) : wpX_skipEmpty post (ct, 1, pk, op, fr, fi, wr, gs, 0, fs, tk, a1, a2, a3, a4, a5, a6, a7, a8, a9, a10, a11, a12, a13, a14) := by
  have b := qb_tabB k hP.1
  exact qb_se (p := 0) (q := qb_sl k) (B := 1) (by omega) rfl (by omega) (by omega) (fun j _ hj => hP.2.2.2.2.2.1 j (by omega) (by omega)) (fun _ => qb_Pn hP) H
theorem qb_seE {post : St2 → Prop} {k dn an c p : Nat} (hP : qb_P k dn an c a8 a9 a10) (hp : qb_sl k < p) (hp3 : p ≤ 3) (H : post (ct, 1, pk, op, fr, fi, wr, gs, nI 3, fs, tk, a1, a2, a3, a4, a5, a6, a7, a8, a9, a10, a11, a12, a13, a14)) : wpX_skipEmpty post (ct, 1, pk, op, fr, fi, wr, gs, nI p, fs, tk, a1, a2, a3, a4, a5, a6, a7, a8, a9, a10, a11, a12, a13, a14) :=
  qb_se (p := p) (q := 3) (B := 1) (by omega) rfl (by omega) (by omega) (fun j hj hj3 => hP.2.2.2.2.2.1 j (by omega) (by omega)) (fun z => absurd z (by omega)) H
/-! takePicture -/
theorem qb_tp28 {post : St2 → Prop} (H : ∀ y : Nat → Int32, post (ct, bu, pk, op, fr, fi, wr, gs, pc, 0, tk, a1, a2, a3, a4, a5, a6, a7, a8, a9, a10, a11, a12, a13, y)) : ∃ n, wX_takePicture_28 post ct bu pk op fr fi wr gs pc fs tk n 0 a1 a2 a3 a4 a5 a6 a7 a8 a9 a10 a11 a12 a13 a14 :=
  pk_loop (fun n i s => wX_takePicture_28 post ct bu pk op fr fi wr gs pc fs tk n (nI i) a1 a2 a3 a4 a5 a6 a7 a8 a9 a10 a11 a12 a13 s) (fun _ _ => True) 16 0 a14 (by omega) trivial
    (fun n s _ => pk_le 16 16 (fun _ => H s) (fun z => absurd z (by omega)))
    (fun n i s hi _ hw => pk_le 16 i (fun z => absurd z (by omega)) (fun _ => ⟨pk_in i 16 hi, pk_in i 16 hi, nm_e (nm_r (nI_1 i) (hw _ trivial))⟩))
theorem qb_tp {post : St2 → Prop} (H : ∀ x y : Nat → Int32, (∀ j, j < 8 → x j = a11 j) → post (ct, bu, pk, op, fr, fi, wr, gs, pc, 0, tk, a1, a2, a3, a4, a5, a6, a7, a8, a9, a10, a11, a12, x, y)) : wpX_takePicture post (ct, bu, pk, op, fr, fi, wr, gs, pc, fs, tk, a1, a2, a3, a4, a5, a6, a7, a8, a9, a10, a11, a12, a13, a14) :=
  pk_loop (fun n i s => wX_takePicture_2 post ct bu pk op fr fi wr gs pc fs tk n (nI i) a1 a2 a3 a4 a5 a6 a7 a8 a9 a10 a11 a12 s a14) (fun i s => ∀ j, j < i → s j = a11 j) 8 0 a13 (by omega) (fun j h => absurd h (by omega))
    (fun n s h => pk_le 8 8 (fun _ => qb_tp28 (fun y => H s y h)) (fun z => absurd z (by omega)))
    (fun n i s hi h hw => pk_le 8 i (fun z => absurd z (by omega)) (fun _ => ⟨pk_in i 8 hi, pk_in i 8 hi, nm_e (nm_r (nI_1 i) (hw _ (qb_fill (nI_clamp (by omega)) h (by rw [nI_clamp (by omega)]))))⟩))
/-! carryOut -/
theorem qb_comp {post : Int32 → Prop} {x y z : Int32} (H : ∀ r, post r) : wpX_computed post () x y z :=
  br_c (fun _ => H _) (fun _ => br_c (fun _ => H _) (fun _ => br_c (fun _ => H _) (fun _ => br_c (fun _ => H _) (fun _ => br_c (fun _ => H _) (fun _ => H _)))))
theorem qb_bool {x : Int32} (h : x = 0 ∨ x = 1) : narrow .boolean (.int x) = .int x ∧ fits .boolean (.int x) = true := by
  rcases h with h | h
  · subst h; exact ⟨rfl, rfl⟩
  · subst h; exact ⟨rfl, rfl⟩
theorem qb_151 {post : St2 → Prop} {k dn an c : Nat} (hP : qb_P k dn an c a8 a9 a10) (H : ∀ fs : Int32, post (ct, bu, pk, op, fr, fi, wr, gs, nI (qb_sl k + 1), fs, tk, a1, a2, a3, a4, a5, a6, a7, a8, a9, a10, a11, a12, a13, a14)) : wX_carryOut_151 post ct bu pk op fr fi wr gs (nI (qb_sl k)) fs tk a1 a2 a3 a4 a5 a6 a7 a8 a9 a10 a11 a12 a13 a14 := by
  have b := qb_tabB k hP.1
  have B := qb_bool hP.2.2.2.2.2.2.1
  refine ⟨pk_in (qb_sl k) 72 (by omega), nm_r (e' := a9 (qb_sl k)) (by rw [nI_clamp (by omega)]) ⟨B.1, B.2, nm_r (nI_1 _) (H _)⟩⟩
theorem qb_cv {c e : Nat} (h : c = 128 + e) : nI c - 128 = nI e := by
  rw [h, Nat.add_comm]
  exact (pk_sub (a := e + 128) (b := 128) (by omega)).trans (by rw [Nat.add_sub_cancel])
/-- one step that leaves the program -/
theorem qb_co {post : St2 → Prop} {k dn an c : Nat} (hP : qb_P k dn an c a8 a9 a10) (hq : k ≤ 9 ∨ c = 129) (h13 : a13 an = 0) (H : ∀ (q : Nat) (fs tk : Int32) (a11 a12 : Nat → Int32), qb_sl k < q → q ≤ 3 → post (ct, 1, pk, op, fr, fi, wr, gs, nI q, fs, tk, a1, a2, a3, a4, qb_T, a6, a7, a8, a9, a10, a11, a12, a13, a14)) : wpX_carryOut post (ct, 1, pk, op, fr, fi, wr, gs, nI (qb_sl k), fs, tk, a1, a2, a3, a4, qb_T, a6, a7, a8, a9, a10, a11, a12, a13, a14) := by
  have hP' := hP
  obtain ⟨hk, hd, ha, hc, h8, hz, h9, h10⟩ := hP'
  have b := qb_tabB k hk
  unfold wpX_carryOut
  refine qb_kindAt hP ?_
  refine qb_dest hP ?_
  refine qb_first hP ?_
  refine ⟨pk_in an 8 ha, nm_r (e' := 0) (by rw [nI_clamp (by omega)]; exact h13) ?_⟩
  refine qb_second hP ?_
  refine pk_lt k 9 (fun z => ?_) (fun z => ?_)
  · refine pk_eq k 8 (fun _ => ⟨pk_in dn 8 hd, pk_andIn _ 4 (by decide) (by omega), nm_e (qb_151 hP (fun _ => H _ _ _ _ _ (by omega) (by omega)))⟩) (fun _ => pk_eq k 7 (fun _ => ⟨pk_andIn _ 4 (by decide) (by omega), pk_in dn 8 hd, nm_e (qb_151 hP (fun _ => H _ _ _ _ _ (by omega) (by omega)))⟩) (fun _ => pk_eq k 6 (fun _ => ⟨pk_in dn 8 hd, nm_e (qb_151 hP (fun _ => H _ _ _ _ _ (by omega) (by omega)))⟩) (fun _ => ⟨pk_andIn _ 3 (by decide) (by omega), qb_comp (fun r => ⟨pk_in dn 8 hd, nm_e (qb_151 hP (fun _ => H _ _ _ _ _ (by omega) (by omega)))⟩)⟩)))
  · refine qb_rbP hP (by omega) (nm_e (pk_eq k 9 (fun y => br_t rfl (nm_r (nI_1 _) (H _ _ _ _ _ (by omega) (by omega)))) (fun y => ?_)))
    have hc' : c = 128 + 1 := by omega
    refine nm_r (e' := nI 3) (by rw [qb_cv hc']; rfl) (qb_rbP hP (by omega) (br_c (fun _ => H 3 _ _ _ _ (by omega) (by omega)) (fun _ => nm_e (H 3 _ _ _ _ (by omega) (by omega)))))
/-- one step of the endless loop -/
theorem qb_coL {post : St2 → Prop} {dn an : Nat} (hP : qb_P 10 dn an 128 a8 a9 a10) (H : ∀ tk : Int32, post (ct, 1, pk, op, fr, fi, wr, gs, 0, 1, tk, a1, a2, a3, a4, qb_T, a6, a7, a8, a9, a10, a11, a12, a13, a14)) : wpX_carryOut post (ct, 1, pk, op, fr, fi, wr, gs, 0, fs, tk, a1, a2, a3, a4, qb_T, a6, a7, a8, a9, a10, a11, a12, a13, a14) := by
  have hP' := hP
  obtain ⟨hk, hd, ha, hc, h8, hz, h9, h10⟩ := hP'
  unfold wpX_carryOut
  refine qb_kindAt (k := 10) hP ?_
  refine qb_dest (k := 10) hP ?_
  refine qb_first (k := 10) hP ?_
  refine ⟨pk_in an 8 ha, nm_e ?_⟩
  refine qb_second (k := 10) hP ?_
  refine pk_lt 10 9 (fun z => absurd z (by omega)) (fun _ => ?_)
  refine qb_rbP (m := 0) hP (by omega) (nm_e (pk_eq 10 9 (fun z => absurd z (by omega)) (fun _ => nm_r (e' := nI 0) (by decide) (qb_rbP (m := 0) hP (by omega) (br_c (fun _ => H _) (fun _ => nm_e (H _)))))))
/-! run -/
theorem qb_run {post : Int32 → St2 → Prop} {k dn an c st : Nat} (hP : qb_P k dn an c a8 a9 a10) (hq : k ≤ 9 ∨ c = 129) (h11 : ∀ j, a11 j = 0) (hst : st ≤ 400) (H0 : st = 0 → post 0 (ct, 1, 1, op, fr, fi, wr, gs, 0, 1, tk, a1, a2, a3, a4, qb_T, a6, a7, a8, a9, a10, a11, a12, a13, a14)) (H1 : 0 < st → ∀ (q : Nat) (fs tk : Int32) (a11 a12 a13 a14 : Nat → Int32), qb_sl k < q → q ≤ 3 → post 1 (ct, 1, 1, op, fr, fi, wr, gs, nI q, fs, tk, a1, a2, a3, a4, qb_T, a6, a7, a8, a9, a10, a11, a12, a13, a14)) : wpX_run post (ct, 1, 1, op, fr, fi, wr, gs, 0, 1, tk, a1, a2, a3, a4, qb_T, a6, a7, a8, a9, a10, a11, a12, a13, a14) (nI st) := by
  have b := qb_tabB k hP.1
  refine br_f (nI_pos (by omega)) (br_t (nI_le (b := 400) hst (by decide)) (br_f (by decide) ?_))
  rcases Nat.eq_zero_or_pos st with e | e
  · exact ⟨1, pk_le st 0 (fun _ => H0 e) (fun z => absurd z (by omega))⟩
  · refine ⟨2, pk_le st 0 (fun z => absurd z (by omega)) (fun _ => qb_seS hP (pk_lt (qb_sl k) 3 (fun _ => br_f (by decide) (qb_tp (fun x y hx => qb_co hP hq (by rw [hx an hP.2.2.1]; exact h11 an) (fun q fs tk u v hq1 hq3 => nm_r (e' := 1) (by decide) (nm_r (e' := 1) (by decide) (pk_le st 1 (fun _ => H1 e _ _ _ _ _ _ _ hq1 hq3) (fun _ => qb_seE hP hq1 hq3 (pk_lt 3 3 (fun z => absurd z (by omega)) (fun _ => H1 e 3 _ _ _ _ _ _ (by omega) (by omega)))))))))) (fun z => absurd z (by omega))))⟩
theorem qb_runL {post : Int32 → St2 → Prop} {dn an st : Nat} (hP : qb_P 10 dn an 128 a8 a9 a10) (hst : st ≤ 400) (H : ∀ (fs tk : Int32) (a13 a14 : Nat → Int32), post (nI st) (ct, 1, 1, op, fr, fi, wr, gs, 0, fs, tk, a1, a2, a3, a4, qb_T, a6, a7, a8, a9, a10, a11, a12, a13, a14)) : wpX_run post (ct, 1, 1, op, fr, fi, wr, gs, 0, fs, tk, a1, a2, a3, a4, qb_T, a6, a7, a8, a9, a10, a11, a12, a13, a14) (nI st) := by
  refine br_f (nI_pos (by omega)) (br_t (nI_le (b := 400) hst (by decide)) (br_f (by decide) ?_))
  exact pk_loop (σ := Int32 × Int32 × (Nat → Int32) × (Nat → Int32)) (fun n i s => wX_run_21 post (nI st) n (nI i) (nI i) ct 1 1 op fr fi wr gs 0 s.1 s.2.1 a1 a2 a3 a4 qb_T a6 a7 a8 a9 a10 a11 a12 s.2.2.1 s.2.2.2) (fun _ _ => True) st 0 (fs, tk, a13, a14) (by omega) trivial
    (fun n s _ => pk_le st st (fun _ => H _ _ _ _) (fun z => absurd z (by omega)))
    (fun n i s hi _ hw => pk_le st i (fun z => absurd z (by omega)) (fun _ => qb_seS hP (br_t (by decide) (br_c
      (fun _ => qb_coL hP (fun tk' => nm_r (nI_1 i) (nm_r (nI_1 i) (hw (1, tk', s.2.2.1, s.2.2.2) trivial))))
      (fun _ => qb_tp (fun x y _ => qb_coL hP (fun tk' => nm_r (nI_1 i) (nm_r (nI_1 i) (hw (1, tk', x, y) trivial)))))))))
end
end
section
section
variable {ct bu pk op fr fi wr gs pc fs tk : Int32} {a1 a2 a3 a4 a5 a6 a7 a8 a9 a10 a11 a12 a13 a14 : Nat → Int32}
variable {post : Int32 → St0 → Prop} {mc ms kc ks : Nat}
/-! the law's end: over and place -/
theorem qb_endO {k dn an c q : Nat} (Hp : post 1 ()) (hP : qb_P k dn an c a8 a9 a10) (h1 : qb_sl k < q) (h3 : q ≤ 3) : wL_lawOf_337 post mc ms 1 1 kc ks ct 1 1 op fr fi wr gs (nI q) fs tk a1 a2 a3 a4 a5 a6 a7 a8 a9 a10 a11 a12 a13 a14 :=
  br_f (by decide) (qb_seE hP h1 h3 (pk_lt 3 3 (fun z => absurd z (by omega)) (fun _ => br_f (by decide) (br_t rfl (br_f (by decide) (qb_rbP (m := 3) hP (by omega) (br_f (by decide) (br_f (by decide) (br_t (by rw [if_pos (by omega)]; rfl) Hp)))))))))
theorem qb_endN {k dn an c : Nat} (Hp : post 1 ()) (hP : qb_P k dn an c a8 a9 a10) : wL_lawOf_337 post mc ms 1 0 kc ks ct 1 1 op fr fi wr gs 0 fs tk a1 a2 a3 a4 a5 a6 a7 a8 a9 a10 a11 a12 a13 a14 := by
  have b := qb_tabB k hP.1
  exact br_f (by decide) (qb_seS hP (pk_lt (qb_sl k) 3 (fun _ => br_t rfl (br_t rfl (br_f (by decide) (qb_rbP (m := qb_sl k) hP (by omega) (br_t rfl (br_t (by rw [if_neg (by omega)]; rfl) Hp)))))) (fun z => absurd z (by omega))))
theorem qb_end0a (Hp : post 1 ()) : wL_lawOf_337 post mc ms 0 1 kc ks 0 0 1 op fr fi wr gs 0 fs tk a1 a2 a3 a4 a5 a6 a7 a8 a9 a10 a11 a12 a13 a14 := by
  refine br_f (by decide) ?_
  exact qb_se (p := 0) (q := 0) (B := 0) (by omega) rfl (by omega) (by omega) (fun j _ h => absurd h (by omega)) (fun h => absurd h (by omega)) (br_f (by decide) (br_f (by decide) (br_t rfl (br_f (by decide) (qb_rb (m := 0) (B := 0) (e := 0) (sl := 0) (by omega) (by omega) rfl (by omega) (fun j h => absurd h (by omega)) (fun h => absurd h (by omega)) (br_f (by decide) (br_t rfl (br_t rfl Hp))))))))
theorem qb_end0b (Hp : post 1 ()) : wL_lawOf_337 post mc ms 0 1 kc ks 0 bu 0 op fr fi wr gs 0 fs tk a1 a2 a3 a4 a5 a6 a7 a8 a9 a10 a11 a12 a13 a14 := by
  refine qb_pk0 (fun g w q => ?_)
  exact qb_se (p := 0) (q := 0) (B := 0) (by omega) rfl (by omega) (by omega) (fun j _ h => absurd h (by omega)) (fun h => absurd h (by omega)) (br_f (by decide) (br_f (by decide) (br_t rfl (br_f (by decide) (qb_rb (m := 0) (B := 0) (e := 0) (sl := 0) (by omega) (by omega) rfl (by omega) (fun j h => absurd h (by omega)) (fun h => absurd h (by omega)) (br_f (by decide) (br_t rfl (br_t rfl Hp))))))))
/-! the law where the operation is refused -/
theorem qb_287g {x12 : Int32} {st : Nat} (Hp : post 1 ()) (hst : st ≤ 400) : wL_lawOf_287 post mc ms (nI st) 0 x12 1 0 kc ks 0 bu 0 op fr fi wr gs 0 fs tk a1 a2 a3 a4 a5 a6 a7 a8 a9 a10 a11 a12 a13 a14 := by
  refine br_f (nI_pos (by omega)) (br_t (nI_le (b := 400) hst (by decide)) (qb_pk0 (fun g w q => ⟨1, br_c (fun _ => ?_) (fun _ => ?_)⟩)))
  · exact br_f (by decide) (br_t rfl (br_t rfl (qb_end0a Hp)))
  · exact qb_se (p := 0) (q := 0) (B := 0) (by omega) rfl (by omega) (by omega) (fun j _ h => absurd h (by omega)) (fun h => absurd h (by omega)) (br_f (by decide) (br_f (by decide) (br_t rfl (br_t rfl (qb_end0a Hp)))))
theorem qb_287b {x4 x12 z : Int32} (Hp : post 1 ()) (h : x4 < 0 ∨ 400 < x4) : wL_lawOf_287 post mc ms x4 0 x12 0 z kc ks 0 bu 0 op fr fi wr gs 0 fs tk a1 a2 a3 a4 a5 a6 a7 a8 a9 a10 a11 a12 a13 a14 :=
  br_c (fun _ => br_t rfl (br_t rfl (br_t rfl (qb_end0b Hp)))) (fun g => br_f (Int32.not_le.mpr (h.resolve_left g)) (br_t rfl (br_t rfl (br_t rfl (qb_end0b Hp)))))
theorem qb_240z {x4 : Int32} (Hp : post 1 ()) : wL_lawOf_240 post mc ms x4 0 0 kc ks 0 bu 0 op fr fi wr gs 0 fs tk a1 a2 a3 a4 a5 a6 a7 a8 a9 a10 a11 a12 a13 a14 := by
  refine br_c (fun g => br_t rfl (qb_287b Hp (Or.inl g))) (fun g => br_c (fun h => br_t rfl (qb_287b Hp (Or.inr h))) (fun h => br_t rfl ?_))
  obtain ⟨st, hst, rfl⟩ := nI_of2 (M := 400) (n := 400) (by decide) g (Int32.not_lt.mp h)
  exact qb_287g Hp hst
theorem qb_172z {x0 x3 x4 z : Int32} (Hp : post 1 ()) : wL_lawOf_172 post mc ms x0 x3 x4 0 z kc ks 0 bu 0 op fr fi wr gs 0 fs tk a1 a2 a3 a4 a5 a6 a7 a8 a9 a10 a11 a12 a13 a14 :=
  br_f (by decide) (br_t (by decide) (br_t rfl (br_t rfl (br_f (by decide) (br_f (by decide) (br_t rfl (br_t rfl (br_t rfl (qb_240z Hp)))))))))
theorem qb_154z {x0 x3 x4 : Int32} (Hp : post 1 ()) : wL_lawOf_154 post mc ms x0 x3 x4 0 kc ks 0 bu 0 op fr fi wr gs 0 fs tk a1 a2 a3 a4 a5 a6 a7 a8 a9 a10 a11 a12 a13 a14 :=
  br_c (fun _ => qb_172z Hp) (fun _ => br_c (fun _ => qb_172z Hp) (fun _ => qb_172z Hp))
/-! the law where it is taken -/
theorem qb_287n {x4 x12 z : Int32} {k dn an c : Nat} (Hp : post 1 ()) (hP : qb_P k dn an c a8 a9 a10) (h : x4 < 0 ∨ 400 < x4) : wL_lawOf_287 post mc ms x4 1 x12 0 z kc ks ct 1 1 op fr fi wr gs 0 fs tk a1 a2 a3 a4 a5 a6 a7 a8 a9 a10 a11 a12 a13 a14 :=
  br_c (fun _ => br_t rfl (br_t rfl (br_f (by decide) (br_t rfl (qb_endN Hp hP))))) (fun g => br_f (Int32.not_le.mpr (h.resolve_left g)) (br_t rfl (br_t rfl (br_f (by decide) (br_t rfl (qb_endN Hp hP))))))
theorem qb_260g {x12 : Int32} {k dn an c st : Nat} (Hp : post 1 ()) (hP : qb_P k dn an c a8 a9 a10) (h11 : ∀ j, a11 j = 0) (hst : st ≤ 400) (hl : (x12 = 0 ∧ (k ≤ 9 ∨ c = 129)) ∨ (x12 = 1 ∧ k = 10 ∧ c = 128)) : wL_lawOf_260 post mc ms (nI st) 1 x12 1 kc ks ct 1 1 op fr fi wr gs 0 1 tk a1 a2 a3 a4 qb_T a6 a7 a8 a9 a10 a11 a12 a13 a14 := by
  refine br_f (by decide) (pk_eq st 0 (fun e => ?_) (fun e => ?_))
  · subst e
    exact br_f (by decide) (br_t (by decide) (br_f (by decide) ⟨1, br_t (by decide) (br_f (by decide) (br_t rfl (br_f (by decide) (br_f (by decide) (br_t (by decide) (qb_endN Hp hP))))))⟩))
  · have e0 : ¬ nI st ≤ 0 := nI_nle (by omega) (by omega)
    rcases hl with ⟨hx, hq⟩ | ⟨hx, hk, hc⟩
    · subst hx
      exact br_t rfl (qb_run hP hq h11 hst (fun z => absurd z e) (fun _ q fs tk u11 u12 u13 u14 h1 h3 => br_f (by decide) (br_t rfl (br_f (by decide) (br_f (by decide) (br_f e0 (br_t rfl (qb_endO Hp hP h1 h3))))))))
    · subst hx hk hc
      exact br_f (by decide) (qb_runL hP hst (fun fs tk u13 u14 => br_f (by decide) (br_t rfl (br_f (by decide) (br_f (by decide) (br_f e0 (br_f (by decide) (qb_endN Hp hP))))))))
theorem qb_240n {x4 x12 : Int32} {k dn an c : Nat} (Hp : post 1 ()) (hP : qb_P k dn an c a8 a9 a10) (h11 : ∀ j, a11 j = 0) (hl : (x12 = 0 ∧ (k ≤ 9 ∨ c = 129)) ∨ (x12 = 1 ∧ k = 10 ∧ c = 128)) : wL_lawOf_240 post mc ms x4 1 x12 kc ks ct 1 1 op fr fi wr gs 0 1 tk a1 a2 a3 a4 qb_T a6 a7 a8 a9 a10 a11 a12 a13 a14 := by
  have nb : (x4 < 0 ∨ 400 < x4) → wL_lawOf_260 post mc ms x4 1 x12 0 kc ks ct 1 1 op fr fi wr gs 0 1 tk a1 a2 a3 a4 qb_T a6 a7 a8 a9 a10 a11 a12 a13 a14 := fun h =>
    br_f (by decide) (br_c (fun _ => qb_287n Hp hP h) (fun _ => br_c (fun _ => qb_287n Hp hP h) (fun _ => qb_287n Hp hP h)))
  refine br_c (fun g => nb (Or.inl g)) (fun g => br_c (fun h => nb (Or.inr h)) (fun h => ?_))
  obtain ⟨st, hst, rfl⟩ := nI_of2 (M := 400) (n := 400) (by decide) g (Int32.not_lt.mp h)
  exact qb_260g Hp hP h11 hst hl
theorem qb_215n {x3 x4 : Int32} {k dn an c : Nat} (Hp : post 1 ()) (hP : qb_P k dn an c a8 a9 a10) (h11 : ∀ j, a11 j = 0) (h3 : k = 10 → (x3 = 0 → c = 128) ∧ (¬ x3 = 0 → c = 129)) : wL_lawOf_215 post mc ms (nI k) x3 x4 1 (nI k) (nI k) kc ks ct 1 1 op fr fi wr gs 0 1 tk a1 a2 a3 a4 qb_T a6 a7 a8 a9 a10 a11 a12 a13 a14 := by
  have hk := hP.1
  exact br_t rfl (br_f (by decide) (pk_eq k 10 (fun e => br_c (fun g => qb_240n Hp hP h11 (Or.inr ⟨rfl, e, (h3 e).1 g⟩)) (fun g => qb_240n Hp hP h11 (Or.inl ⟨rfl, Or.inr ((h3 e).2 g)⟩))) (fun e => qb_240n Hp hP h11 (Or.inl ⟨rfl, Or.inl (by omega)⟩))))
theorem qb_194n {x3 x4 z z1 : Int32} {k dn an c : Nat} (Hp : post 1 ()) (hP : qb_P k dn an c a8 a9 a10) (h11 : ∀ j, a11 j = 0) (h3 : k = 10 → (x3 = 0 → c = 128) ∧ (¬ x3 = 0 → c = 129)) (hz : z1 = z) : wL_lawOf_194 post mc ms (nI k) x3 x4 1 z z1 kc ks 1 1 1 op fr fi wr gs 0 1 tk a1 a2 a3 a4 qb_T a6 a7 a8 a9 a10 a11 a12 a13 a14 :=
  br_t hz (br_f (by decide) (br_t (by decide) (br_f (by decide) (qb_rs hP (qb_kindAt hP (br_f (by decide) (qb_215n Hp hP h11 h3)))))))
theorem qb_172n {x3 x4 z : Int32} {k dn an c m : Nat} (Hp : post 1 ()) (hi : qb_In k dn an c m a1 a2 a3 a4) (h11 : ∀ j, a11 j = 0) (h3 : k = 10 → (x3 = 0 → c = 128) ∧ (¬ x3 = 0 → c = 129)) (hz : k < 9 → nI c - 128 = z) (hz9 : 9 ≤ k → nI (min m 1) = z) : wL_lawOf_172 post mc ms (nI k) x3 x4 1 z kc ks 1 bu 0 op fr fi wr gs 0 1 tk a1 a2 a3 a4 qb_T a6 a7 a8 a9 a10 a11 a12 a13 a14 := by
  have hk := hi.1
  have h9 := hi.2.2.2.2.2.2.2.2
  have b := qb_tabB k hk
  refine br_f (by decide) (br_f (by decide) (br_f (by decide) (br_t (by decide) (qb_pk1 hi (fun fr fi wr gs a6 a7 a8 a9 a10 hP => qb_rs hP (br_f (by decide) (br_f (by decide) (qb_second hP (qb_kindAt hP (pk_lt k 9 (fun y => br_f (by decide) (qb_194n Hp hP h11 h3 (hz y))) (fun y => ?_)))))))))))
  have hc : c = 128 + min m 1 := (h9 y).2.2
  have e : 3 * (nI c - 128) = nI (3 * min m 1) := qb_3 (qb_cv hc)
  refine ek_v (P := fun x => wpX_realsBefore _ _ x) e (qb_rbP hP (by omega) (br_f (by decide) (qb_194n Hp hP h11 h3 ?_)))
  rw [← hz9 y, b.2.2.2.2 y]
  by_cases g : m = 0
  · rw [if_neg (by omega), show min m 1 = 0 by omega]
  · rw [if_pos (by omega), show min m 1 = 1 by omega]
theorem qb_154n {x3 x4 : Int32} {k dn an c m : Nat} (Hp : post 1 ()) (hi : qb_In k dn an c m a1 a2 a3 a4) (h4 : a4 0 = x3) (h11 : ∀ j, a11 j = 0) : wL_lawOf_154 post mc ms (nI k) x3 x4 1 kc ks 1 bu 0 op fr fi wr gs 0 1 tk a1 a2 a3 a4 qb_T a6 a7 a8 a9 a10 a11 a12 a13 a14 := by
  have hi' := hi
  obtain ⟨hk, hd, ha, hc, g1, g2, g3, hb, hb9⟩ := hi'
  rw [h4] at hb hb9
  have h3 : k = 10 → (x3 = 0 → c = 128) ∧ (¬ x3 = 0 → c = 129) := fun e => by
    obtain ⟨m1, m2, m3⟩ := hb9 (by omega)
    constructor
    · intro z
      rw [m2] at z
      have : m = 0 := (nI_eq (by omega) (by omega)).mp z
      omega
    · intro z
      have : m ≠ 0 := fun q => z (by rw [m2, q]; rfl)
      omega
  have hx : k < 9 → nI c - 128 = x3 := fun z => by rw [← hb z]; exact Int32.add_sub_cancel x3 128
  refine pk_le k 8 (fun z => qb_172n Hp hi h11 h3 hx (fun y => absurd z (by omega))) (fun z => ?_)
  obtain ⟨m1, m2, m3⟩ := hb9 (by omega)
  exact pk_le m 1 (fun y => qb_172n Hp hi h11 h3 hx (fun _ => by rw [m2, show min m 1 = m by omega])) (fun y => qb_172n Hp hi h11 h3 (fun w => absurd w (by omega)) (fun _ => by rw [show min m 1 = 1 by omega]; rfl)) m2
end
end
section
section
variable {ct bu pk op fr fi wr gs pc fs tk : Int32} {a1 a2 a3 a4 a5 a6 a7 a8 a9 a10 a11 a12 a13 a14 : Nat → Int32}
/-! emit -/
def qb_lo (k : Nat) : Int32 := if k < 6 then 0 else if k < 9 then -128 else 0
def qb_hi (k : Nat) : Int32 := if k < 6 then 7 else if k < 9 then 127 else 24
theorem qb_lh1 {k : Nat} (h : k < 6) : qb_lo k = 0 ∧ qb_hi k = 7 := by
  unfold qb_lo qb_hi; rw [if_pos h, if_pos h]; exact ⟨rfl, rfl⟩
theorem qb_lh2 {k : Nat} (h : 6 ≤ k) (g : k ≤ 8) : qb_lo k = -128 ∧ qb_hi k = 127 := by
  constructor
  · unfold qb_lo; rw [if_neg (by omega), if_pos (by omega)]
  · unfold qb_hi; rw [if_neg (by omega), if_pos (by omega)]
theorem qb_lh3 {k : Nat} (h : 8 < k) : qb_lo k = 0 ∧ qb_hi k = 24 := by
  constructor
  · unfold qb_lo; rw [if_neg (by omega), if_neg (by omega)]
  · unfold qb_hi; rw [if_neg (by omega), if_neg (by omega)]
theorem qb_rng {k : Nat} {x : Int32} (hk : k < 11) (h1 : ¬ x < qb_lo k) (h2 : x ≤ qb_hi k) : ∃ c m : Nat, c < 256 ∧ (k < 9 → x + 128 = nI c) ∧ (9 ≤ k → m < 25 ∧ x = nI m ∧ c = 128 + min m 1) := by
  by_cases p : k < 6
  · rw [(qb_lh1 p).1] at h1
    rw [(qb_lh1 p).2] at h2
    obtain ⟨j, hj, rfl⟩ := nI_of2 (M := 7) (n := 7) (by decide) h1 h2
    exact ⟨j + 128, 0, by omega, fun _ => nI_add j 128, fun z => absurd z (by omega)⟩
  · by_cases q : k ≤ 8
    · rw [(qb_lh2 (by omega) q).1] at h1
      rw [(qb_lh2 (by omega) q).2] at h2
      obtain ⟨j, hj, e, _⟩ := bx_small h1 (Int32.not_lt.mpr h2)
      exact ⟨j, 0, hj, fun _ => e, fun z => absurd z (by omega)⟩
    · rw [(qb_lh3 (by omega)).1] at h1
      rw [(qb_lh3 (by omega)).2] at h2
      obtain ⟨j, hj, rfl⟩ := nI_of2 (M := 24) (n := 24) (by decide) h1 h2
      exact ⟨128 + min j 1, j, by omega, fun z => absurd z (by omega), fun _ => ⟨by omega, rfl, rfl⟩⟩
theorem qb_emit {post : Int32 → St2 → Prop} {k dn an : Nat} {x : Int32} (hk : k < 11) (hd : dn < 8) (ha : an < 8) (H : wX_emit_83 post (nI k) (nI dn) (nI an) x (qb_lo k) (qb_hi k) ct bu pk op fr fi wr gs pc fs tk a1 a2 a3 a4 a5 a6 a7 a8 a9 a10 a11 a12 a13 a14) : wpX_emit post (ct, bu, pk, op, fr, fi, wr, gs, pc, fs, tk, a1, a2, a3, a4, a5, a6, a7, a8, a9, a10, a11, a12, a13, a14) (nI k) (nI dn) (nI an) x := by
  refine br_f (nI_pos (by omega)) (pk_le k 10 (fun _ => br_f (nI_pos (by omega)) (pk_lt 7 dn (fun z => absurd z (by omega)) (fun _ => br_f (nI_pos (by omega)) (pk_le an 7 (fun _ => pk_lt k 6 (fun z => pk_le 6 k (fun y => absurd z (by omega)) (fun _ => pk_lt k 9 (fun _ => ?_) (fun y => absurd z (by omega)))) (fun z => pk_lt 8 k (fun y => pk_le 6 k (fun _ => pk_lt k 9 (fun w => absurd w (by omega)) (fun _ => ?_)) (fun w => absurd w (by omega))) (fun y => pk_le 6 k (fun _ => pk_lt k 9 (fun _ => ?_) (fun w => absurd w (by omega))) (fun w => absurd w (by omega))))) (fun z => absurd z (by omega)))))) (fun z => absurd z (by omega)))
  · rw [(qb_lh1 z).1, (qb_lh1 z).2] at H; exact H
  · rw [(qb_lh3 y).1, (qb_lh3 y).2] at H; exact H
  · rw [(qb_lh2 z y).1, (qb_lh2 z y).2] at H; exact H
theorem qb_u0 {f : Nat → Int32} {x : Int32} : upd f (0 : Int32).toNatClampNeg x 0 = x := by rw [sb_cl0]; exact pk_us
/-! the law up to its end -/
theorem qb_67 {post : Int32 → St0 → Prop} {mc ms kc ks : Nat} {x0 x1 x2 x3 x4 lo hi : Int32} (Hp : post 1 ()) (h11 : ∀ j, a11 j = 0) (hl : ∀ k, k < 11 → x0 = nI k → lo = qb_lo k ∧ hi = qb_hi k) : wL_lawOf_67 post mc ms x0 x1 x2 x3 x4 0 lo hi kc ks 0 bu 0 op fr fi wr gs 0 fs tk a1 a2 a3 a4 qb_T a6 a7 a8 a9 a10 a11 a12 a13 a14 := by
  refine br_c (fun z0 => ?_) (fun z0 => br_c (fun y0 => br_c (fun z1 => ?_) (fun z1 => br_c (fun y1 => ?_) (fun y1 => br_c (fun z2 => ?_) (fun z2 => br_c (fun y2 => ?_) (fun y2 => ?_))))) (fun y0 => ?_))
  · exact br_t z0 (br_t rfl (br_f (by decide) (qb_154z Hp)))
  · exact br_f z0 (br_t y0 (br_t z1 (br_t rfl (br_f (by decide) (qb_154z Hp)))))
  · exact br_f z0 (br_t y0 (br_f z1 (br_t y1 (br_t rfl (br_f (by decide) (qb_154z Hp))))))
  · exact br_f z0 (br_t y0 (br_f z1 (br_f y1 (br_t z2 (br_t rfl (br_f (by decide) (qb_154z Hp)))))))
  · obtain ⟨k, hk, rfl⟩ := nI_of2 (M := 10) (n := 10) (by decide) z0 y0
    obtain ⟨dn, hd, rfl⟩ := nI_of2 (M := 7) (n := 7) (by decide) z1 (Int32.not_lt.mp y1)
    obtain ⟨an, ha, rfl⟩ := nI_of2 (M := 7) (n := 7) (by decide) z2 y2
    obtain ⟨el, eh⟩ := hl k (by omega) rfl
    subst el eh
    refine br_c (fun g => ?_) (fun g => br_c (fun h => ?_) (fun h => ?_))
    · unfold wL_lawOf_124 wL_lawOf_128
      refine qb_emit (by omega) (by omega) (by omega) ?_
      exact br_t g (br_t rfl (br_f (by decide) (qb_154z Hp)))
    · obtain ⟨c, m, hc, hb, hb9⟩ := qb_rng (by omega) g h
      unfold wL_lawOf_128
      refine qb_emit (by omega) (by omega) (by omega) ?_
      refine (br_f g (br_t h (br_f (by decide) ⟨pk_in 0 24 (by omega), nm_e ⟨pk_in 0 24 (by omega), nm_e ⟨pk_in 0 24 (by omega), nm_e ⟨pk_in 0 24 (by omega), nm_e (nm_r (e' := 1) (by decide) (br_t (by decide) (br_t rfl ?_)))⟩⟩⟩⟩)))
      exact qb_154n (c := c) (m := m) Hp ⟨by omega, by omega, by omega, hc, qb_u0, qb_u0, qb_u0, by rw [qb_u0]; exact hb, by rw [qb_u0]; exact hb9⟩ qb_u0 h11
    · unfold wL_lawOf_124 wL_lawOf_128
      refine qb_emit (by omega) (by omega) (by omega) ?_
      exact br_f g (br_f h (br_t rfl (br_f (by decide) (qb_154z Hp))))
  · exact br_f z0 (br_t y0 (br_f z1 (br_f y1 (br_f z2 (br_f y2 (br_t rfl (br_f (by decide) (qb_154z Hp))))))))
  · exact br_f z0 (br_f y0 (br_t rfl (br_f (by decide) (qb_154z Hp))))
theorem qb_init {post : St2 → Prop} (H : post (0, 0, 0, 0, 0, 0, 0, 0, 0, 0, 0, (fun _ => 0), (fun _ => 0), (fun _ => 0), (fun _ => 0), qb_T, (fun _ => 0), (fun _ => 0), (fun _ => 0), (fun _ => 0), (fun _ => 0), (fun _ => 0), (fun _ => 0), (fun _ => 0), (fun _ => 0))) : wpX_init post 14 367 (0, 0, 0, 0, 0, 0, 0, 0, 0, 0, 0) :=
  ⟨by omega, by omega, by omega, by omega, by omega, by omega, by omega, by omega, by omega, by omega, by omega, by omega, by omega, by omega, by omega, by omega, by omega, by omega, by omega, by omega, by omega, by omega, by omega, by omega, by omega, by omega, by omega, by omega, nm_e (nm_e (nm_e (nm_e (nm_e (nm_e H)))))⟩
theorem qb_lawOf {post : Int32 → St0 → Prop} {x0 x1 x2 x3 x4 : Int32} (Hp : post 1 ()) : wpL_lawOf post 15 392 () x0 x1 x2 x3 x4 := by
  refine ⟨by omega, by omega, 14, 367, by omega, by omega, qb_init (br_c (fun z => ?_) (fun z => br_c (fun y => ?_) (fun y => ?_)))⟩
  · refine br_t rfl (br_t rfl (br_c (fun w => qb_67 Hp (fun _ => rfl) (fun k hk e => ?_)) (fun w => qb_67 Hp (fun _ => rfl) (fun k hk e => ?_))))
    · subst e
      have t := qb_lh1 ((nI_ltI (b := 6) (by omega) (by decide)).mp z)
      exact ⟨t.1.symm, t.2.symm⟩
    · subst e
      have t := (nI_ltI (b := 6) (by omega) (by decide)).mp z
      exact absurd (nI_le (b := 8) (show k ≤ 8 by omega) (by decide)) w
  · refine br_t rfl (br_t rfl (br_c (fun w => absurd y (Int32.not_lt.mpr w)) (fun w => qb_67 Hp (fun _ => rfl) (fun k hk e => ?_))))
    subst e
    have t := qb_lh3 ((nI_ltI (a := 8) (by decide) (by omega)).mp y)
    exact ⟨t.1.symm, t.2.symm⟩
  · refine br_f (by decide) (br_f (by decide) (qb_67 Hp (fun _ => rfl) (fun k hk e => ?_)))
    subst e
    have t1 : ¬ k < 6 := fun q => z (nI_lt (b := 6) q (by decide))
    have t2 : ¬ 8 < k := fun q => y (nI_lt (a := 8) q (by omega))
    have t := qb_lh2 (show 6 ≤ k by omega) (show k ≤ 8 by omega)
    exact ⟨t.1.symm, t.2.symm⟩
theorem qb_cell {post : Int32 → Prop} {L : Nat} {xs : Nat → Int32} (hL : L ≤ 5) (i : Nat) (hi : i < 5) {p : Int32} (hp : p = nI i) (H : ∀ r, post r) : wpL_cellAt post L xs () p :=
  pk_le L i (fun _ => H _) (fun z => ⟨pk_in i L z hp, H _⟩) rfl hp
theorem i_vc (xs : Nat → Int32) (L : Nat) (hL : L ≤ 5) : wpL_law (fun r => r = 1) L xs :=
  qb_cell hL 0 (by omega) rfl (fun _ => qb_cell hL 1 (by omega) rfl (fun _ => qb_cell hL 2 (by omega) rfl (fun _ => qb_cell hL 3 (by omega) rfl (fun _ => qb_cell hL 4 (by omega) rfl (fun _ => ⟨15, 392, by omega, by omega, qb_lawOf rfl⟩)))))
end
end
