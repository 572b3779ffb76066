section
/-! the picture: members, rows, blocks -/
/-- the failed member as the field holds it; 5: none -/
def ra_F (f : Nat) : Int32 := if f < 5 then nI f else -1
theorem ra_F5 : ra_F 5 = -1 := if_neg (by decide)
theorem ra_Fm {f : Nat} (h : f < 5) : ra_F f = nI f := if_pos h
theorem ra_nm1 : ∀ m, m < 5 → ¬ nI m = -1 := by decide
theorem ra_Feq {m f : Nat} (hm : m < 5) : nI m = ra_F f ↔ m = f := by
  by_cases h : f < 5
  · rw [ra_Fm h]
    exact nI_eq (by omega) (by omega)
  · unfold ra_F
    rw [if_neg h]
    exact ⟨fun z => absurd z (ra_nm1 m hm), fun z => by omega⟩
/-- cell r of member m -/
def ra_g (a : Nat → Int32) (m r : Nat) : Int32 := a (m * 16 + r)
/-- a put: the failed member doesn't take it -/
def ra_P (f m r : Nat) (v : Int32) (a : Nat → Int32) : Nat → Int32 := if m = f then a else upd a (m * 16 + r) v
theorem ra_un {m r m' r' : Nat} {v : Int32} {a : Nat → Int32} (hr : r < 16) (hr' : r' < 16) (h : m' ≠ m ∨ r' ≠ r) : ra_g (upd a (m * 16 + r) v) m' r' = ra_g a m' r' := by
  show upd a (m * 16 + r) v (m' * 16 + r') = a (m' * 16 + r')
  exact pk_un (by omega)
theorem ra_us {m r : Nat} {v : Int32} {a : Nat → Int32} : ra_g (upd a (m * 16 + r) v) m r = v := by
  show upd a (m * 16 + r) v (m * 16 + r) = v
  exact pk_us
theorem ra_Pu {f m r m' r' : Nat} {v : Int32} {a : Nat → Int32} (hr : r < 16) (hr' : r' < 16) (h : m' ≠ m ∨ r' ≠ r) : ra_g (ra_P f m r v a) m' r' = ra_g a m' r' := by
  unfold ra_P
  by_cases e : m = f
  · rw [if_pos e]
  · rw [if_neg e]
    exact ra_un hr hr' h
theorem ra_Ps {f m r : Nat} {v : Int32} {a : Nat → Int32} (h : m ≠ f) : ra_g (ra_P f m r v a) m r = v := by
  unfold ra_P
  rw [if_neg h]
  exact ra_us
theorem ra_ix (m r : Nat) : nI m * 16 + nI r = nI (m * 16 + r) := by
  rw [show (16 : Int32) = nI 16 from rfl, pk_mul, nI_add]
/-- the member that holds place i of a row whose parity lies on p -/
def ra_m (p i : Nat) : Nat := if i < p then i else i + 1
/-- the exclusive or of a row's c blocks (2, else 4) -/
def ra_X (c : Nat) (g : Nat → Int32) : Int32 := if c = 2 then g 0 ^^^ g 1 else ((g 0 ^^^ g 1) ^^^ g 2) ^^^ g 3
/-- what member m of a row holds -/
def ra_G (c : Nat) (g : Nat → Int32) (p m : Nat) : Int32 := if m = p then ra_X c g else g (if m < p then m else m - 1)
theorem ra_Gp {c : Nat} {g : Nat → Int32} {p : Nat} : ra_G c g p p = ra_X c g := if_pos rfl
theorem ra_Gm {c : Nat} {g : Nat → Int32} {p i : Nat} : ra_G c g p (ra_m p i) = g i := by
  unfold ra_G ra_m
  by_cases h : i < p
  · rw [if_pos h, if_neg (by omega), if_pos h]
  · rw [if_neg h, if_neg (by omega), if_neg (by omega), Nat.add_sub_cancel]
theorem ra_mne (p i : Nat) : ra_m p i ≠ p := by
  unfold ra_m
  by_cases h : i < p
  · rw [if_pos h]; omega
  · rw [if_neg h]; omega
theorem ra_mlt {p i c : Nat} (hi : i < c) : ra_m p i < c + 1 := by
  unfold ra_m
  by_cases h : i < p
  · rw [if_pos h]; omega
  · rw [if_neg h]; omega
theorem ra_minj {p i j : Nat} (h : ra_m p i = ra_m p j) : i = j := by
  unfold ra_m at h
  by_cases h1 : i < p
  · by_cases h2 : j < p
    · rw [if_pos h1, if_pos h2] at h; exact h
    · rw [if_pos h1, if_neg h2] at h; omega
  · by_cases h2 : j < p
    · rw [if_neg h1, if_pos h2] at h; omega
    · rw [if_neg h1, if_neg h2] at h; omega
/-- a member that isn't the parity's holds a place -/
theorem ra_mof {p m c : Nat} (hm : m < c + 1) (hp : m ≠ p) (hc : p < c + 1) : ∃ i, i < c ∧ m = ra_m p i := by
  by_cases h : m < p
  · exact ⟨m, by omega, by unfold ra_m; rw [if_pos h]⟩
  · exact ⟨m - 1, by omega, by unfold ra_m; rw [if_neg (by omega)]; omega⟩
/-- member m of row r in the layout of c blocks a row, the blocks' contents being V -/
def ra_D (c : Nat) (V : Nat → Int32) (r m : Nat) : Int32 := ra_G c (fun i => V (c * r + i)) (r % (c + 1)) m
/-- row r is in order, the failed member apart -/
def ra_R (c : Nat) (V : Nat → Int32) (f : Nat) (a : Nat → Int32) (r : Nat) : Prop := ∀ m, m < c + 1 → m ≠ f → ra_g a m r = ra_D c V r m
theorem ra_Dp {c : Nat} {V : Nat → Int32} {r : Nat} : ra_D c V r (r % (c + 1)) = ra_X c (fun i => V (c * r + i)) := ra_Gp
theorem ra_Dm {c : Nat} {V : Nat → Int32} {r i : Nat} : ra_D c V r (ra_m (r % (c + 1)) i) = V (c * r + i) := ra_Gm (g := fun i => V (c * r + i))
theorem ra_Xc {c : Nat} {g h : Nat → Int32} (hc : c = 2 ∨ c = 4) (H : ∀ i, i < c → g i = h i) : ra_X c g = ra_X c h := by
  unfold ra_X
  rcases hc with rfl | rfl
  · rw [if_pos rfl, if_pos rfl, H 0 (by omega), H 1 (by omega)]
  · rw [if_neg (by decide), if_neg (by decide), H 0 (by omega), H 1 (by omega), H 2 (by omega), H 3 (by omega)]
theorem ra_Dc {c : Nat} {V V' : Nat → Int32} {r m : Nat} (hc : c = 2 ∨ c = 4) (hm : m < c + 1) (H : ∀ i, i < c → V' (c * r + i) = V (c * r + i)) : ra_D c V' r m = ra_D c V r m := by
  by_cases e : m = r % (c + 1)
  · rw [e, ra_Dp, ra_Dp]
    exact ra_Xc hc H
  · obtain ⟨i, hi, rfl⟩ := ra_mof hm e (Nat.mod_lt _ (by omega))
    rw [ra_Dm, ra_Dm, H i hi]
/-- a row that isn't touched -/
theorem ra_Rc {c : Nat} {V V' : Nat → Int32} {f : Nat} {a a' : Nat → Int32} {r : Nat} (hc : c = 2 ∨ c = 4) (H : ∀ i, i < c → V' (c * r + i) = V (c * r + i)) (K : ∀ m, m < 5 → m ≠ f → ra_g a' m r = ra_g a m r) (h : ra_R c V f a r) : ra_R c V' f a' r := by
  intro m hm hf
  rw [ra_Dc hc hm H, K m (by omega) hf]
  exact h m hm hf
theorem ra_xx (x y : Int32) : x ^^^ (x ^^^ y) = y := by
  rw [← Int32.xor_assoc, Int32.xor_self, Int32.zero_xor]
theorem ra_xl (x y z : Int32) : x ^^^ (y ^^^ z) = y ^^^ (x ^^^ z) := by
  rw [← Int32.xor_assoc, ← Int32.xor_assoc, Int32.xor_comm x y]
/-- the exclusive or of the members below n but one -/
def ra_O (h : Nat → Int32) (but : Nat) : Nat → Int32
  | 0 => 0
  | m + 1 => if m = but then ra_O h but m else ra_O h but m ^^^ h m
theorem ra_Os {h : Nat → Int32} {but m : Nat} : ra_O h but (m + 1) = if m = but then ra_O h but m else ra_O h but m ^^^ h m := rfl
theorem ra_Oc {h k : Nat → Int32} {but : Nat} (n : Nat) : (∀ m, m < n → m ≠ but → h m = k m) → ra_O h but n = ra_O k but n := by
  induction n with
  | zero => exact fun _ => rfl
  | succ n ih =>
    intro H
    rw [ra_Os, ra_Os, ih (fun m hm => H m (by omega))]
    by_cases e : n = but
    · rw [if_pos e, if_pos e]
    · rw [if_neg e, if_neg e, H n (by omega) e]
theorem ra_OG2 (g : Nat → Int32) (p b : Nat) (hp : p < 3) (hb : b < 3) : ra_O (ra_G 2 g p) b 3 = ra_G 2 g p b := by
  have h1 : p = 0 ∨ p = 1 ∨ p = 2 := by omega
  have h2 : b = 0 ∨ b = 1 ∨ b = 2 := by omega
  rcases h1 with rfl | rfl | rfl <;> rcases h2 with rfl | rfl | rfl <;> simp [ra_O, ra_G, ra_X, Int32.xor_assoc, Int32.xor_comm, ra_xl, ra_xx]
theorem ra_OG4 (g : Nat → Int32) (p b : Nat) (hp : p < 5) (hb : b < 5) : ra_O (ra_G 4 g p) b 5 = ra_G 4 g p b := by
  have h1 : p = 0 ∨ p = 1 ∨ p = 2 ∨ p = 3 ∨ p = 4 := by omega
  have h2 : b = 0 ∨ b = 1 ∨ b = 2 ∨ b = 3 ∨ b = 4 := by omega
  rcases h1 with rfl | rfl | rfl | rfl | rfl <;> rcases h2 with rfl | rfl | rfl | rfl | rfl <;> simp [ra_O, ra_G, ra_X, Int32.xor_assoc, Int32.xor_comm, ra_xl, ra_xx]
/-- a row in order but for one member: the others say what that one holds -/
theorem ra_OR {c : Nat} {V : Nat → Int32} {a : Nat → Int32} {r but : Nat} (hc : c = 2 ∨ c = 4) (hb : but < c + 1) (h : ra_R c V but a r) : ra_O (fun m => ra_g a m r) but (c + 1) = ra_D c V r but := by
  rw [ra_Oc (k := ra_D c V r) (c + 1) (fun m hm hn => h m hm hn)]
  rcases hc with rfl | rfl
  · exact ra_OG2 _ _ _ (Nat.mod_lt _ (by decide)) hb
  · exact ra_OG4 _ _ _ (Nat.mod_lt _ (by decide)) hb
/-- the parity when a block is written -/
theorem ra_XU {c : Nat} {V : Nat → Int32} {r i : Nat} {v : Int32} (hc : c = 2 ∨ c = 4) (hi : i < c) : ra_X c (fun j => upd V (c * r + i) v (c * r + j)) = (ra_X c (fun j => V (c * r + j)) ^^^ V (c * r + i)) ^^^ v := by
  have e : ∀ j, upd V (c * r + i) v (c * r + j) = if j = i then v else V (c * r + j) := by
    intro j
    by_cases h : j = i
    · rw [if_pos h, h]; exact pk_us
    · rw [if_neg h]; exact pk_un (by omega)
  unfold ra_X
  dsimp only
  rw [e 0, e 1, e 2, e 3]
  rcases hc with rfl | rfl
  · rw [if_pos (rfl : 2 = 2), if_pos (rfl : 2 = 2)]
    have h2 : i = 0 ∨ i = 1 := by omega
    rcases h2 with rfl | rfl <;> simp [Int32.xor_assoc, Int32.xor_comm, ra_xl, ra_xx]
  · rw [if_neg (by decide : ¬ 4 = 2), if_neg (by decide : ¬ 4 = 2)]
    have h2 : i = 0 ∨ i = 1 ∨ i = 2 ∨ i = 3 := by omega
    rcases h2 with rfl | rfl | rfl | rfl <;> simp [Int32.xor_assoc, Int32.xor_comm, ra_xl, ra_xx]
end
section
/-! the small methods -/
/-- the layout as the code says it: 0 narrow (2 blocks a row), 1 wide (4) -/
def ra_wd (c : Nat) (w : Int32) : Prop := (c = 2 ∧ w = 0) ∨ (c = 4 ∧ w = 1)
theorem ra_wc {c : Nat} {w : Int32} (h : ra_wd c w) : c = 2 ∨ c = 4 := h.elim (fun z => Or.inl z.1) (fun z => Or.inr z.1)
theorem ra_rowOf {post : Int32 → Prop} {c b : Nat} {w : Int32} (hw : ra_wd c w) (hb : b < 64) (h : post (nI (b / c))) : wpX_rowOf post () (nI b) w := by
  rcases hw with ⟨rfl, rfl⟩ | ⟨rfl, rfl⟩
  · refine br_t (by rfl) ?_
    rw [show nI b >>> ((1 : Int32) &&& 31) = nI (b / 2) from pk_shrN (by omega) _ 1 (by decide)]
    exact h
  · refine br_f (by decide) ?_
    rw [show nI b >>> ((2 : Int32) &&& 31) = nI (b / 4) from pk_shrN (by omega) _ 2 (by decide)]
    exact h
theorem ra_m41 {post : Int32 → Prop} {p i : Nat} (hp : p < 100) (hi : i < 100) (h : post (nI (ra_m p i))) : wX_memberOf_41 post (nI p) (nI i) := by
  unfold ra_m at h
  refine pk_le p i (fun z => ?_) (fun z => ?_)
  · rw [if_neg (by omega)] at h
    rw [nI_1]
    exact h
  · rw [if_pos z] at h
    exact h
theorem ra_memberOf {post : Int32 → Prop} {c b : Nat} {w : Int32} (hw : ra_wd c w) (hb : b < 64) (h : post (nI (ra_m (b / c % (c + 1)) (b % c)))) : wpX_memberOf post () (nI b) w := by
  rcases hw with ⟨rfl, rfl⟩ | ⟨rfl, rfl⟩
  · refine br_t (by rfl) ?_
    rw [show nI b >>> ((1 : Int32) &&& 31) = nI (b / 2) from pk_shrN (by omega) _ 1 (by decide)]
    refine br_t (by rfl) ⟨by decide, ?_⟩
    rw [show nI (b / 2) - nI (b / 2) / 3 * 3 = nI (b / 2 % 3) from pk_rem (by omega) (by decide) (by decide)]
    refine br_t (by rfl) ?_
    rw [show nI b &&& 1 = nI (b % 2) from pk_andN (by omega) 1 (by decide)]
    exact ra_m41 (by omega) (by omega) h
  · refine br_f (by decide) ?_
    rw [show nI b >>> ((2 : Int32) &&& 31) = nI (b / 4) from pk_shrN (by omega) _ 2 (by decide)]
    refine br_f (by decide) ⟨by decide, ?_⟩
    rw [show nI (b / 4) - nI (b / 4) / 5 * 5 = nI (b / 4 % 5) from pk_rem (by omega) (by decide) (by decide)]
    refine br_f (by decide) ?_
    rw [show nI b &&& 3 = nI (b % 4) from pk_andN (by omega) 2 (by decide)]
    exact ra_m41 (by omega) (by omega) h
theorem ra_parityOf {post : Int32 → Prop} {c r : Nat} {w : Int32} (hw : ra_wd c w) (hr : r < 64) (h : post (nI (r % (c + 1)))) : wpX_parityOf post () (nI r) w := by
  rcases hw with ⟨rfl, rfl⟩ | ⟨rfl, rfl⟩
  · refine br_t (by rfl) ⟨by decide, ?_⟩
    rw [show nI r - nI r / 3 * 3 = nI (r % 3) from pk_rem (by omega) (by decide) (by decide)]
    exact h
  · refine br_f (by decide) ⟨by decide, ?_⟩
    rw [show nI r - nI r / 5 * 5 = nI (r % 5) from pk_rem (by omega) (by decide) (by decide)]
    exact h
theorem ra_oth17 {post : Int32 → Prop} {s1 s2 s3 s4 s5 s6 : Int32} {a1 a2 : Nat → Int32} {r but e : Nat} (hr : r < 16) (he : e ≤ 5) (hb : but < 5) (h : post (ra_O (fun m => ra_g a1 m r) but e)) : ∃ n, wX_others_17 post (nI r) (nI but) (nI e) s1 s2 s3 s4 s5 s6 a1 a2 n 0 0 :=
  pk_loop (fun n i s => wX_others_17 post (nI r) (nI but) (nI e) s1 s2 s3 s4 s5 s6 a1 a2 n s (nI i)) (fun i s => s = ra_O (fun m => ra_g a1 m r) but i) e 0 0 (by omega) rfl
    (fun n s hs => pk_le e e (fun _ => by rw [hs]; exact h) (fun z => absurd z (by omega)))
    (fun n i s hi hs hw => pk_le e i (fun z => absurd z (by omega)) (fun _ => pk_eq i but
      (fun z => nm_r (nI_1 i) (hw s (show s = ra_O (fun m => ra_g a1 m r) but (i + 1) by rw [ra_Os, if_pos z]; exact hs)))
      (fun z => ⟨pk_in (i * 16 + r) 80 (by omega) (ra_ix i r), nm_r (by rw [pk_cl (i * 16 + r) (ra_ix i r)]) (nm_r (nI_1 i) (hw (s ^^^ a1 (i * 16 + r)) (show s ^^^ a1 (i * 16 + r) = ra_O (fun m => ra_g a1 m r) but (i + 1) by rw [ra_Os, if_neg z, ← hs]; rfl)))⟩)))
theorem ra_others {post : Int32 → Prop} {s1 s2 s3 s4 s5 s6 : Int32} {a1 a2 : Nat → Int32} {c r but : Nat} {w : Int32} (hw : ra_wd c w) (hr : r < 16) (hb : but < 5) (h : post (ra_O (fun m => ra_g a1 m r) but (c + 1))) : wpX_others post (s1, s2, s3, s4, s5, s6, a1, a2) (nI r) (nI but) w := by
  rcases hw with ⟨rfl, rfl⟩ | ⟨rfl, rfl⟩
  · exact br_t (by rfl) (ra_oth17 (e := 3) hr (by omega) hb h)
  · exact br_f (by decide) (ra_oth17 (e := 5) hr (by omega) hb h)
theorem ra_put {post : St2 → Prop} {s1 s3 s4 s5 s6 : Int32} {a1 a2 : Nat → Int32} {f m r : Nat} {v : Int32} (hm : m < 5) (hr : r < 16) (h : post (s1, ra_F f, s3, s4, s5, s6, ra_P f m r v a1, a2)) : wpX_put post (s1, ra_F f, s3, s4, s5, s6, a1, a2) (nI m) (nI r) v := by
  unfold ra_P at h
  refine ek_if (ra_Feq hm) (fun z => ?_) (fun z => ⟨pk_in (m * 16 + r) 80 (by omega) (ra_ix m r), nm_r (by rw [pk_cl (m * 16 + r) (ra_ix m r)]) ?_⟩)
  · rw [if_pos z] at h
    exact h
  · rw [if_neg z] at h
    exact h
theorem ra_fetchFrom {post : Int32 → Prop} {s1 s3 s4 s5 s6 : Int32} {a1 a2 : Nat → Int32} {c b f : Nat} {w : Int32} {V : Nat → Int32} (hw : ra_wd c w) (hb : b < 12 * c) (hR : ra_R c V f a1 (b / c)) (h : post (V b)) : wpX_fetchFrom post (s1, ra_F f, s3, s4, s5, s6, a1, a2) (nI b) w := by
  have hc := ra_wc hw
  have hr : b / c < 12 := by rcases hc with rfl | rfl <;> omega
  have hb' : b < 64 := by rcases hc with rfl | rfl <;> omega
  have hi : b % c < c := Nat.mod_lt _ (by rcases hc with rfl | rfl <;> omega)
  have hm : ra_m (b / c % (c + 1)) (b % c) < c + 1 := ra_mlt hi
  have hm5 : ra_m (b / c % (c + 1)) (b % c) < 5 := by rcases hc with rfl | rfl <;> omega
  have hD : ra_D c V (b / c) (ra_m (b / c % (c + 1)) (b % c)) = V b := by rw [ra_Dm, Nat.div_add_mod]
  unfold wpX_fetchFrom
  refine ra_rowOf hw hb' (ra_memberOf hw hb' ?_)
  revert hD hm hm5
  generalize ra_m (b / c % (c + 1)) (b % c) = m
  intro hm hm5 hD
  refine ek_if (ra_Feq hm5) (fun z => ?_) (fun z => ⟨pk_in (m * 16 + b / c) 80 (by omega) (ra_ix m (b / c)), ?_⟩)
  · subst z
    refine ra_others hw (by omega) hm5 ?_
    rw [ra_OR hc hm hR, hD]
    exact h
  · rw [pk_cl (m * 16 + b / c) (ra_ix m (b / c))]
    have e : a1 (m * 16 + b / c) = V b := (hR m hm z).trans hD
    rw [e]
    exact h
theorem ra_store {post : St2 → Prop} {s1 s3 s4 s5 s6 : Int32} {a1 a2 : Nat → Int32} {c b f : Nat} {w v : Int32} {V : Nat → Int32} (hw : ra_wd c w) (hb : b < 12 * c)
    (hbw : ∀ P : Int32 → Prop, P w → wpX_blockIsWide P (s1, ra_F f, s3, s4, s5, s6, a1, a2) (nI b)) (hR : ra_R c V f a1 (b / c))
    (h : ∀ a', ra_R c (upd V b v) f a' (b / c) → (∀ m r, r < 16 → r ≠ b / c → ra_g a' m r = ra_g a1 m r) → post (s1, ra_F f, s3, s4, s5, -1, a', a2)) :
    wpX_store post (s1, ra_F f, s3, s4, s5, s6, a1, a2) (nI b) v 3 := by
  have hc := ra_wc hw
  have hr : b / c < 12 := by rcases hc with rfl | rfl <;> omega
  have hb' : b < 64 := by rcases hc with rfl | rfl <;> omega
  have hi : b % c < c := Nat.mod_lt _ (by rcases hc with rfl | rfl <;> omega)
  have hm : ra_m (b / c % (c + 1)) (b % c) < c + 1 := ra_mlt hi
  have hp : b / c % (c + 1) < c + 1 := Nat.mod_lt _ (by omega)
  have hc5 : c + 1 ≤ 5 := by rcases hc with rfl | rfl <;> omega
  have hbE : c * (b / c) + b % c = b := Nat.div_add_mod b c
  unfold wpX_store
  refine hbw _ (ra_rowOf hw hb' (ra_memberOf hw hb' (ra_parityOf hw (by omega) (ra_fetchFrom hw hb hR ⟨pk_in (b / c % (c + 1) * 16 + b / c) 80 (by omega) (ra_ix _ _), ?_⟩))))
  intro x e
  rw [pk_cl (b / c % (c + 1) * 16 + b / c) (ra_ix _ _)] at e
  refine br_f (by decide) (ra_put (by omega) (by omega) ?_)
  refine br_f (by decide) (ra_put (by omega) (by omega) ?_)
  refine br_f (by decide) (h _ ?_ ?_)
  · intro m' hm' hf'
    by_cases e1 : m' = b / c % (c + 1)
    · subst e1
      rw [ra_Ps hf', e, ra_Dp]
      have t := ra_XU (V := V) (r := b / c) (i := b % c) (v := v) hc hi
      rw [hbE] at t
      rw [t, ← ra_Dp, ← hR _ hm' hf']
      rfl
    · obtain ⟨j, hj, rfl⟩ := ra_mof hm' e1 hp
      rw [ra_Pu (by omega) (by omega) (Or.inl e1), ra_Dm]
      by_cases e2 : j = b % c
      · subst e2
        rw [ra_Ps hf', hbE]
        exact pk_us.symm
      · rw [ra_Pu (by omega) (by omega) (Or.inl (fun z => e2 (ra_minj z))), pk_un (by omega), hR _ hm' hf', ra_Dm]
  · intro m r hr16 hne
    rw [ra_Pu (by omega) hr16 (Or.inr hne), ra_Pu (by omega) hr16 (Or.inr hne)]
end
section
/-! the state's picture: K rows are wide, the rows from 2 K on are narrow (stage 2: K = 12) -/
def ra_S (st mv : Int32) (K : Nat) : Prop := (st = 0 ∧ mv = 0 ∧ K = 0) ∨ (st = 1 ∧ mv = nI K ∧ K ≤ 5) ∨ (st = 2 ∧ mv = 6 ∧ K = 12)
def ra_z (K : Nat) : Nat := if K = 12 then 48 else 24
def ra_J (K : Nat) (V : Nat → Int32) (f : Nat) (a : Nat → Int32) : Prop := (∀ r, r < K → r < 12 → ra_R 4 V f a r) ∧ (∀ r, 2 * K ≤ r → r < 12 → ra_R 2 V f a r)
theorem ra_z12 : ra_z 12 = 48 := if_pos rfl
theorem ra_zn {K : Nat} (h : K ≤ 5) : ra_z K = 24 := if_neg (by omega)
theorem ra_z48 (K : Nat) : ra_z K ≤ 48 := by
  unfold ra_z
  by_cases h : K = 12
  · rw [if_pos h]; omega
  · rw [if_neg h]; omega
theorem ra_size {post : Int32 → Prop} {s1 s2 st mv s5 s6 : Int32} {a1 a2 : Nat → Int32} {K : Nat} (hS : ra_S st mv K) (h : post (nI (ra_z K))) : wpX_size post (s1, s2, st, mv, s5, s6, a1, a2) := by
  rcases hS with ⟨rfl, rfl, rfl⟩ | ⟨rfl, rfl, hK⟩ | ⟨rfl, rfl, rfl⟩
  · exact br_f (by decide) h
  · rw [ra_zn hK] at h
    exact pk_eq K 6 (fun z => absurd z (by omega)) (fun _ => h)
  · exact br_t (by rfl) h
theorem ra_biw {P : Int32 → Prop} {s1 s2 st mv s5 s6 : Int32} {a1 a2 : Nat → Int32} {K b : Nat} (hS : ra_S st mv K) (hb : b < 48) (h : P (if b < 4 * K then 1 else 0)) : wpX_blockIsWide P (s1, s2, st, mv, s5, s6, a1, a2) (nI b) := by
  rcases hS with ⟨rfl, rfl, rfl⟩ | ⟨rfl, rfl, hK⟩ | ⟨rfl, rfl, rfl⟩
  · rw [if_neg (by omega)] at h
    exact br_f (by decide) (br_f (by decide) h)
  · refine br_f (by decide) (br_t (by rfl) (pk_le (4 * K) b (fun z => ?_) (fun z => ?_) (pk_mul 4 K) (by rfl)))
    · rw [if_neg (by omega)] at h
      exact h
    · rw [if_pos z] at h
      exact h
  · rw [if_pos (by omega)] at h
    exact br_t (by rfl) h
theorem ra_fetch {post : Int32 → Prop} {s1 st mv s5 s6 : Int32} {a1 a2 : Nat → Int32} {K b f : Nat} {V : Nat → Int32} (hS : ra_S st mv K) (hJ : ra_J K V f a1) (hb : b < ra_z K) (h : post (V b)) : wpX_fetch post (s1, ra_F f, st, mv, s5, s6, a1, a2) (nI b) := by
  have hz := ra_z48 K
  unfold wpX_fetch
  by_cases hk : b < 4 * K
  · refine ra_biw hS (by omega) ?_
    rw [if_pos hk]
    exact ra_fetchFrom (c := 4) (Or.inr ⟨rfl, rfl⟩) (by omega) (hJ.1 _ (by omega) (by omega)) h
  · have hK : ra_z K = 24 := if_neg (fun e => by rw [e, ra_z12] at hb; omega)
    refine ra_biw hS (by omega) ?_
    rw [if_neg hk]
    exact ra_fetchFrom (c := 2) (Or.inl ⟨rfl, rfl⟩) (by omega) (hJ.2 _ (by omega) (by omega)) h
theorem ra_isBlock {post : Int32 → Prop} {s1 s2 st mv s5 s6 : Int32} {a1 a2 : Nat → Int32} {K b : Nat} (hS : ra_S st mv K) (hb : b < ra_z K) (h : post 1) : wpX_isBlock post (s1, s2, st, mv, s5, s6, a1, a2) (nI b) := by
  have hz := ra_z48 K
  unfold wpX_isBlock
  exact ra_size hS (br_f (nI_pos (by omega)) (br_f (nI_ge hb (by omega)) h))
theorem ra_read {post : Int32 → Prop} {st mv s5 s6 : Int32} {a1 a2 : Nat → Int32} {K b f : Nat} {V : Nat → Int32} (hS : ra_S st mv K) (hJ : ra_J K V f a1) (hb : b < ra_z K) (h : post (V b)) : wpX_read post (1, ra_F f, st, mv, s5, s6, a1, a2) (nI b) :=
  br_f (by decide) (ra_isBlock hS hb (br_f (by decide) (ra_fetch hS hJ hb h)))
def ra_sum (V : Nat → Int32) : Nat → Int32
  | 0 => 0
  | n + 1 => ra_sum V n + V n
theorem ra_sumW {post : Int32 → Prop} {st mv s5 s6 : Int32} {a1 a2 : Nat → Int32} {K f : Nat} {V : Nat → Int32} (hS : ra_S st mv K) (hJ : ra_J K V f a1) (h : post (ra_sum V (ra_z K))) : wpX_sum post (1, ra_F f, st, mv, s5, s6, a1, a2) := by
  have hz := ra_z48 K
  refine br_f (by decide) (ra_size hS ?_)
  exact pk_loop (fun n i s => wX_sum_18 post (nI (ra_z K)) 1 (ra_F f) st mv s5 s6 a1 a2 n s (nI i)) (fun i s => s = ra_sum V i) (ra_z K) 0 0 (by omega) rfl
    (fun n s hs => pk_le (ra_z K) (ra_z K) (fun _ => by rw [hs]; exact h) (fun z => absurd z (by omega)))
    (fun n i s hi hs hw => pk_le (ra_z K) i (fun z => absurd z (by omega)) (fun _ => ra_fetch hS hJ hi (nm_r (by rfl) (nm_r (nI_1 i) (hw (s + V i) (show s + V i = ra_sum V (i + 1) by rw [hs]; rfl))))))
/-- a block is written -/
theorem ra_stJ {post : St2 → Prop} {s1 st mv s5 s6 v : Int32} {a1 a2 : Nat → Int32} {K b f : Nat} {V : Nat → Int32} (hS : ra_S st mv K) (hJ : ra_J K V f a1) (hb : b < ra_z K) (h : ∀ a', ra_J K (upd V b v) f a' → post (s1, ra_F f, st, mv, s5, -1, a', a2)) : wpX_store post (s1, ra_F f, st, mv, s5, s6, a1, a2) (nI b) v 3 := by
  have hz := ra_z48 K
  by_cases hk : b < 4 * K
  · refine ra_store (c := 4) (w := 1) (V := V) (Or.inr ⟨rfl, rfl⟩) (by omega) (fun P hP => ra_biw hS (by omega) (by rw [if_pos hk]; exact hP)) (hJ.1 _ (by omega) (by omega)) (fun a' h1 h2 => h a' ⟨fun r hr hr2 => ?_, fun r hr hr2 => ?_⟩)
    · by_cases e : r = b / 4
      · rw [e]; exact h1
      · exact ra_Rc (Or.inr rfl) (fun i hi => pk_un (by omega)) (fun m _ _ => h2 m r (by omega) e) (hJ.1 r hr hr2)
    · exact ra_Rc (Or.inl rfl) (fun i hi => pk_un (by omega)) (fun m _ _ => h2 m r (by omega) (by omega)) (hJ.2 r hr hr2)
  · have hK : ra_z K = 24 := if_neg (fun e => by rw [e, ra_z12] at hb; omega)
    refine ra_store (c := 2) (w := 0) (V := V) (Or.inl ⟨rfl, rfl⟩) (by omega) (fun P hP => ra_biw hS (by omega) (by rw [if_neg hk]; exact hP)) (hJ.2 _ (by omega) (by omega)) (fun a' h1 h2 => h a' ⟨fun r hr hr2 => ?_, fun r hr hr2 => ?_⟩)
    · exact ra_Rc (Or.inr rfl) (fun i hi => pk_un (by omega)) (fun m _ _ => h2 m r (by omega) (by omega)) (hJ.1 r hr hr2)
    · by_cases e : r = b / 2
      · rw [e]; exact h1
      · exact ra_Rc (Or.inl rfl) (fun i hi => pk_un (by omega)) (fun m _ _ => h2 m r (by omega) e) (hJ.2 r hr hr2)
theorem ra_write {post : Int32 → St2 → Prop} {st mv s5 s6 v : Int32} {a1 a2 : Nat → Int32} {K b f : Nat} {V : Nat → Int32} (hS : ra_S st mv K) (hJ : ra_J K V f a1) (hb : b < ra_z K) (h : ∀ a', ra_J K (upd V b v) f a' → post 0 (1, ra_F f, st, mv, s5, -1, a', a2)) : wpX_write post (1, ra_F f, st, mv, s5, s6, a1, a2) (nI b) v :=
  br_f (by decide) (ra_isBlock hS hb (br_f (by decide) (ra_stJ hS hJ hb h)))
/-- the blocks that fill wrote, the first n -/
def ra_V (v t : Int32) (n : Nat) : Nat → Int32 := fun j => if j < n then v + nI j * t else 0
theorem ra_Vs {v t : Int32} {n : Nat} : upd (ra_V v t n) n (v + nI n * t) = ra_V v t (n + 1) := by
  funext j
  by_cases e : j = n
  · rw [e, pk_us]
    exact (if_pos (by omega)).symm
  · rw [pk_un e]
    unfold ra_V
    by_cases h : j < n
    · rw [if_pos h, if_pos (by omega)]
    · rw [if_neg h, if_neg (by omega)]
theorem ra_Dz {c : Nat} {V : Nat → Int32} {r m : Nat} (hc : c = 2 ∨ c = 4) (hm : m < c + 1) (H : ∀ i, i < c → V (c * r + i) = 0) : ra_D c V r m = 0 := by
  by_cases e : m = r % (c + 1)
  · rw [e, ra_Dp, ra_Xc (h := fun _ => 0) hc H]
    rcases hc with rfl | rfl <;> rfl
  · obtain ⟨i, hi, rfl⟩ := ra_mof hm e (Nat.mod_lt _ (by omega))
    rw [ra_Dm, H i hi]
theorem ra_fill {post : Int32 → St2 → Prop} {v t : Int32} {a2 : Nat → Int32} (h : ∀ a', ra_J 0 (ra_V v t 24) 5 a' → post 0 (1, ra_F 5, 0, 0, 0, -1, a', a2)) : wpX_fill post (1, ra_F 5, 0, 0, 0, -1, (fun _ => 0), a2) 0 24 v t := by
  refine br_f (by decide) (br_f (by decide) (br_t (by decide) (br_f (by decide) (br_f (by decide) (br_t (by decide) ?_)))))
  refine pk_loop (fun n i s => wX_fill_47 post 0 24 v t n (nI i) 1 (ra_F 5) 0 0 0 (-1) s a2) (fun i s => ra_J 0 (ra_V v t i) 5 s) 24 0 (fun _ => 0) (by omega) ?_ (fun n s hs => pk_le 24 24 (fun _ => h s hs) (fun z => absurd z (by omega))) (fun n i s hi hs hw => pk_le 24 i (fun z => absurd z (by omega)) (fun _ => ?_))
  · refine ⟨fun r hr _ => absurd hr (by omega), fun r _ hr m hm _ => ?_⟩
    rw [ra_Dz (Or.inl rfl) hm (fun i _ => if_neg (by omega))]
    rfl
  · rw [Int32.zero_add]
    refine ra_stJ (K := 0) (V := ra_V v t i) (Or.inl ⟨rfl, rfl, rfl⟩) hs (by rw [ra_zn (by omega)]; exact hi) (fun a' hJ => ?_)
    rw [ra_Vs] at hJ
    exact nm_r (nI_1 i) (hw a' hJ)
end
section
/-! fail, replace, finish -/
theorem ra_fail {post : Int32 → St2 → Prop} {st mv s5 s6 : Int32} {a a2 : Nat → Int32} {K m : Nat} {V : Nat → Int32} (hst : ¬ st = 0) (hm : m < 5) (hJ : ra_J K V 5 a) (h : ∀ a', ra_J K V m a' → post 0 (1, ra_F m, st, mv, s5, s6, a', a2)) : wpX_fail post (1, ra_F 5, st, mv, s5, s6, a, a2) (nI m) := by
  refine br_f (by decide) (br_f hst (br_f (nI_pos (by omega)) (br_t (nI_lt (b := 5) hm (by decide)) (br_t ra_F5 ?_))))
  rw [ra_Fm hm] at h
  refine pk_loop (fun n i s => wX_fail_44 post (nI m) 1 (nI m) st mv s5 s6 n (nI i) s a2) (fun i s => ∀ m' r, r < 16 → m' ≠ m → ra_g s m' r = ra_g a m' r) 16 0 a (by omega) (fun _ _ _ _ => rfl) (fun n s hs => pk_le 16 16 (fun _ => h s ⟨fun r hr hr2 m' hm' hn => ?_, fun r hr hr2 m' hm' hn => ?_⟩) (fun z => absurd z (by omega))) (fun n i s hi hs hw => pk_le 16 i (fun z => absurd z (by omega)) (fun _ => ⟨pk_in (m * 16 + i) 80 (by omega) (ra_ix m i), nm_r (by rw [pk_cl (m * 16 + i) (ra_ix m i)]) (nm_r (nI_1 i) (hw (upd s (m * 16 + i) (1515870810 ^^^ nI i)) (fun m' r hr hn => (ra_un hi hr (Or.inl hn)).trans (hs m' r hr hn))))⟩))
  · rw [hs m' r (by omega) hn]
    exact hJ.1 r hr hr2 m' hm' (by omega)
  · rw [hs m' r (by omega) hn]
    exact hJ.2 r hr hr2 m' hm' (by omega)
theorem ra_mend {post : St2 → Prop} {s1 s3 s4 s5 s6 : Int32} {a1 a2 : Nat → Int32} {c r m f : Nat} {w : Int32} {V : Nat → Int32} (hw : ra_wd c w) (hr : r < 16) (hm : m < c + 1) (hR : ra_R c V m a1 r) (h : post (s1, ra_F f, s3, s4, s5, s6, ra_P f m r (ra_D c V r m) a1, a2)) : wpX_mend post (s1, ra_F f, s3, s4, s5, s6, a1, a2) (nI r) (nI m) w := by
  have hc := ra_wc hw
  have hm5 : m < 5 := by rcases hc with rfl | rfl <;> omega
  unfold wpX_mend
  refine ra_others hw hr hm5 (ra_put hm5 hr ?_)
  rw [ra_OR hc hm hR]
  exact h
theorem ra_isW {P : Int32 → Prop} {s1 s2 st mv s5 s6 : Int32} {a1 a2 : Nat → Int32} {K r : Nat} (hS : ra_S st mv K) (hr : r < 12) (h : P (if r < K then 1 else 0)) : wpX_isWide P (s1, s2, st, mv, s5, s6, a1, a2) (nI r) := by
  rcases hS with ⟨rfl, rfl, rfl⟩ | ⟨rfl, rfl, hK⟩ | ⟨rfl, rfl, rfl⟩
  · rw [if_neg (by omega)] at h
    exact br_f (by decide) (br_f (by decide) h)
  · refine br_f (by decide) (br_t (by rfl) (pk_le K r (fun z => ?_) (fun z => ?_)))
    · rw [if_neg (by omega)] at h
      exact h
    · rw [if_pos z] at h
      exact h
  · rw [if_pos hr] at h
    exact br_t (by rfl) h
theorem ra_inU {P : Int32 → Prop} {s1 s2 st mv s5 s6 : Int32} {a1 a2 : Nat → Int32} {K r : Nat} (hS : ra_S st mv K) (hr : r < 12) (h : P (if r < K ∨ 2 * K ≤ r then 1 else 0)) : wpX_inUse P (s1, s2, st, mv, s5, s6, a1, a2) (nI r) := by
  rcases hS with ⟨rfl, rfl, rfl⟩ | ⟨rfl, rfl, hK⟩ | ⟨rfl, rfl, rfl⟩
  · rw [if_pos (by omega)] at h
    exact br_f (by decide) h
  · refine br_t (by rfl) (pk_lt r K (fun z => ?_) (fun z => pk_lt r (2 * K) (fun z2 => ?_) (fun z2 => ?_) (by rfl) (pk_mul 2 K)))
    · rw [if_pos (by omega)] at h
      exact h
    · rw [if_neg (by omega)] at h
      exact h
    · rw [if_pos (by omega)] at h
      exact h
  · rw [if_pos (by omega)] at h
    exact br_f (by decide) h
theorem ra_replaceN {post : Int32 → St2 → Prop} {st mv s5 s6 : Int32} {a a2 : Nat → Int32} (h : post (-2) (1, ra_F 5, st, mv, s5, s6, a, a2)) : wpX_replace post (1, ra_F 5, st, mv, s5, s6, a, a2) :=
  br_f (by decide) (br_t ra_F5 h)
/-- a row mended in its turn -/
theorem ra_Rm {c r m : Nat} {V s a : Nat → Int32} (hr : r < 16) (hm : m < 5) (hR : ra_R c V m a r) (hs : ∀ m' r, r < 16 → m' ≠ m → ra_g s m' r = ra_g a m' r) : ra_R c V 5 (ra_P 5 m r (ra_D c V r m) s) r := by
  intro m' hm' _
  by_cases e : m' = m
  · rw [e, ra_Ps (by omega)]
  · rw [ra_Pu hr hr (Or.inl e), hs m' r hr e]
    exact hR m' hm' e
theorem ra_rep58 {post : Int32 → St2 → Prop} {st mv s5 s6 : Int32} {a s0 a2 : Nat → Int32} {K m : Nat} {V : Nat → Int32} (hS : ra_S st mv K) (hm : m < 5) (hJ : ra_J K V m a) (hs0 : ∀ m' r, r < 16 → m' ≠ m → ra_g s0 m' r = ra_g a m' r) (h : ∀ a', ra_J K V 5 a' → post (nI m) (1, ra_F 5, st, mv, s5, s6, a', a2)) : ∃ n, wX_replace_58 post (nI m) n 0 1 (ra_F 5) st mv s5 s6 s0 a2 := by
  refine pk_loop (fun n i s => wX_replace_58 post (nI m) n (nI i) 1 (ra_F 5) st mv s5 s6 s a2) (fun i s => (∀ m' r, r < 16 → m' ≠ m → ra_g s m' r = ra_g a m' r) ∧ (∀ r, r < i → r < K → ra_R 4 V 5 s r) ∧ (∀ r, r < i → 2 * K ≤ r → ra_R 2 V 5 s r)) 12 0 s0 (by omega) ⟨hs0, fun r hr => absurd hr (by omega), fun r hr => absurd hr (by omega)⟩ (fun n s hs => pk_le 12 12 (fun _ => h s ⟨fun r hr hr2 => hs.2.1 r hr2 hr, fun r hr hr2 => hs.2.2 r hr2 hr⟩) (fun z => absurd z (by omega))) (fun n i s hi hs hw => pk_le 12 i (fun z => absurd z (by omega)) (fun _ => ra_isW hS hi (ra_inU hS hi ?_)))
  obtain ⟨h1, h2, h3⟩ := hs
  have keep : ∀ (c : Nat) (D : Int32) (r : Nat), (c = 2 ∨ c = 4) → r < i → ra_R c V 5 s r → ra_R c V 5 (ra_P 5 m i D s) r := fun c D r hc hr hR => ra_Rc hc (fun _ _ => rfl) (fun m' _ _ => ra_Pu (by omega) (by omega) (Or.inr (by omega))) hR
  have agree : ∀ (D : Int32) (m' r : Nat), r < 16 → m' ≠ m → ra_g (ra_P 5 m i D s) m' r = ra_g a m' r := fun D m' r hr hn => (ra_Pu (by omega) hr (Or.inl hn)).trans (h1 m' r hr hn)
  by_cases hK : i < K
  · rw [if_pos hK, if_pos (Or.inl hK)]
    have hR := hJ.1 i hK hi
    refine br_f (by decide) (br_f (by decide) ?_)
    unfold wX_replace_87
    refine ra_mend (c := 4) (V := V) (Or.inr ⟨rfl, rfl⟩) (by omega) (by omega) (ra_Rc (Or.inr rfl) (fun _ _ => rfl) (fun m' _ hn => h1 m' i (by omega) hn) hR) (nm_r (nI_1 i) (hw _ ⟨agree _, fun r hr hrK => ?_, fun r hr hrK => ?_⟩))
    · by_cases e : r = i
      · rw [e]
        exact ra_Rm (by omega) hm hR h1
      · exact keep 4 _ r (Or.inr rfl) (by omega) (h2 r (by omega) hrK)
    · by_cases e : r = i
      · omega
      · exact keep 2 _ r (Or.inl rfl) (by omega) (h3 r (by omega) hrK)
  · rw [if_neg hK]
    by_cases h2K : 2 * K ≤ i
    · rw [if_pos (Or.inr h2K)]
      have hR := hJ.2 i h2K hi
      refine br_f (by decide) (br_t (by rfl) (pk_le 3 m (fun z => nm_r (nI_1 i) (hw s ⟨h1, fun r hr hrK => h2 r (by omega) hrK, fun r hr hrK => ?_⟩)) (fun z => ?_)))
      · by_cases e : r = i
        · rw [e]
          intro m' hm' _
          rw [h1 m' i (by omega) (by omega)]
          exact hR m' hm' (by omega)
        · exact h3 r (by omega) hrK
      · unfold wX_replace_87
        refine ra_mend (c := 2) (V := V) (Or.inl ⟨rfl, rfl⟩) (by omega) (by omega) (ra_Rc (Or.inl rfl) (fun _ _ => rfl) (fun m' _ hn => h1 m' i (by omega) hn) hR) (nm_r (nI_1 i) (hw _ ⟨agree _, fun r hr hrK => ?_, fun r hr hrK => ?_⟩))
        · exact keep 4 _ r (Or.inr rfl) (by omega) (h2 r (by omega) hrK)
        · by_cases e : r = i
          · rw [e]
            exact ra_Rm (by omega) hm hR h1
          · exact keep 2 _ r (Or.inl rfl) (by omega) (h3 r (by omega) hrK)
    · rw [if_neg (by omega)]
      exact br_t (by rfl) (nm_r (nI_1 i) (hw s ⟨h1, fun r hr hrK => h2 r (by omega) hrK, fun r hr hrK => h3 r (by omega) hrK⟩))
theorem ra_replace {post : Int32 → St2 → Prop} {st mv s5 s6 : Int32} {a a2 : Nat → Int32} {K m : Nat} {V : Nat → Int32} (hS : ra_S st mv K) (hm : m < 5) (hJ : ra_J K V m a) (h : ∀ a', ra_J K V 5 a' → post (nI m) (1, ra_F 5, st, mv, s5, s6, a', a2)) : wpX_replace post (1, ra_F m, st, mv, s5, s6, a, a2) := by
  refine br_f (by decide) (br_f (by rw [ra_Fm hm]; exact ra_nm1 m hm) ?_)
  rw [ra_Fm hm, ← ra_F5]
  exact pk_loop (fun n i s => wX_replace_32 post (nI m) 1 (ra_F 5) st mv s5 s6 n (nI i) s a2) (fun i s => ∀ m' r, r < 16 → m' ≠ m → ra_g s m' r = ra_g a m' r) 16 0 a (by omega) (fun _ _ _ _ => rfl) (fun n s hs => pk_le 16 16 (fun _ => ra_rep58 hS hm hJ hs h) (fun z => absurd z (by omega))) (fun n i s hi hs hw => pk_le 16 i (fun z => absurd z (by omega)) (fun _ => ⟨pk_in (m * 16 + i) 80 (by omega) (ra_ix m i), nm_r (by rw [pk_cl (m * 16 + i) (ra_ix m i)]) (nm_r (nI_1 i) (hw (upd s (m * 16 + i) 0) (fun m' r hr hn => (ra_un hi hr (Or.inl hn)).trans (hs m' r hr hn))))⟩))
theorem ra_finish {post : St2 → Prop} {s1 st mv s5 s6 : Int32} {a a2 : Nat → Int32} {f : Nat} {V : Nat → Int32} (hV : ∀ j, 24 ≤ j → V j = 0) (hJ : ra_J 6 V f a) (h : ∀ a', ra_J 12 V f a' → post (s1, ra_F f, 2, mv, s5, s6, a', a2)) : wpX_finish post (s1, ra_F f, st, mv, s5, s6, a, a2) := by
  refine pk_loop (fun n i s => wX_finish_3 post n (nI i) s1 (ra_F f) st mv s5 s6 s a2) (fun i s => (∀ m r, r < 6 → ra_g s m r = ra_g a m r) ∧ (∀ m r, 6 ≤ r → r < i → m < 5 → m ≠ f → ra_g s m r = 0) ∧ 6 ≤ i) 12 6 a (by omega) ⟨fun _ _ _ => rfl, fun m r h1 h2 => absurd h2 (by omega), by omega⟩ (fun n s hs => pk_le 12 12 (fun _ => h s ⟨fun r hr hr2 m hm hf => ?_, fun r hr hr2 => absurd hr (by omega)⟩) (fun z => absurd z (by omega))) (fun n i s hi hs hw => pk_le 12 i (fun z => absurd z (by omega)) (fun _ => ?_))
  · by_cases h6 : r < 6
    · rw [hs.1 m r h6]
      exact hJ.1 r h6 hr2 m hm hf
    · rw [hs.2.1 m r (by omega) hr2 hm hf, ra_Dz (Or.inr rfl) hm (fun j _ => hV _ (by omega))]
  · have hi6 := hs.2.2
    · refine pk_loop (fun n' j t => wX_finish_11 post (wX_finish_3 post n) (nI i) n' (nI j) s1 (ra_F f) st mv s5 s6 t a2) (fun j t => (∀ m r, r < 16 → r ≠ i → ra_g t m r = ra_g s m r) ∧ (∀ m, m < j → m ≠ f → ra_g t m i = 0)) 5 0 s (by omega) ⟨fun _ _ _ _ => rfl, fun m hm => absurd hm (by omega)⟩ (fun n' t ht => pk_le 5 5 (fun _ => nm_r (nI_1 i) (hw t ⟨fun m r hr => ?_, fun m r h6 hr hm hf => ?_, by omega⟩)) (fun z => absurd z (by omega))) (fun n' j t hj ht hw' => pk_le 5 j (fun z => absurd z (by omega)) (fun _ => ra_put hj (by omega) (nm_r (nI_1 j) (hw' _ ⟨fun m r hr hn => ?_, fun m hm hf => ?_⟩))))
      · rw [ht.1 m r (by omega) (by omega)]
        exact hs.1 m r hr
      · by_cases e : r = i
        · rw [e]
          exact ht.2 m hm hf
        · rw [ht.1 m r (by omega) e]
          exact hs.2.1 m r h6 (by omega) hm hf
      · rw [ra_Pu (by omega) hr (Or.inr hn)]
        exact ht.1 m r hr hn
      · by_cases e : m = j
        · rw [e, ra_Ps (by omega)]
        · rw [ra_Pu (by omega) (by omega) (Or.inl e)]
          exact ht.2 m (by omega) hf
end
section
/-! the move of a group -/
theorem ra_4k (k i : Nat) : 4 * nI k + nI i = nI (4 * k + i) := by
  rw [show (4 : Int32) = nI 4 from rfl, pk_mul, nI_add]
/-- only row k was touched -/
def ra_off (k : Nat) (a a' : Nat → Int32) : Prop := ∀ m r, r < 16 → r ≠ k → ra_g a' m r = ra_g a m r
theorem ra_wwide {post : St2 → Prop} {s1 st s5 s6 : Int32} {a g : Nat → Int32} {f k i0 e : Nat} (hk : k ≤ 5) (hi : i0 ≤ e) (he : e ≤ 4)
    (h : ∀ a', ra_off k a a' → (∀ j, j < i0 → ra_g a' (ra_m (k % 5) j) k = ra_g a (ra_m (k % 5) j) k) → (∀ j, i0 ≤ j → j < e → ra_m (k % 5) j ≠ f → ra_g a' (ra_m (k % 5) j) k = g j) → post (s1, ra_F f, st, nI k, s5, s6, a', g)) :
    wpX_writeWide post (s1, ra_F f, st, nI k, s5, s6, a, g) (nI i0) (nI e) := by
  refine pk_loop (fun n i s => wX_writeWide_2 post (nI e) n (nI i) s1 (ra_F f) st (nI k) s5 s6 s g) (fun i s => ra_off k a s ∧ (∀ j, j < i0 → ra_g s (ra_m (k % 5) j) k = ra_g a (ra_m (k % 5) j) k) ∧ (∀ j, i0 ≤ j → j < i → ra_m (k % 5) j ≠ f → ra_g s (ra_m (k % 5) j) k = g j) ∧ i0 ≤ i) e i0 a hi ⟨fun _ _ _ _ => rfl, fun _ _ => rfl, fun j h1 h2 => absurd h2 (by omega), by omega⟩ (fun n s hs => pk_le e e (fun _ => h s hs.1 hs.2.1 hs.2.2.1) (fun z => absurd z (by omega))) (fun n i s hie hs hw => pk_le e i (fun z => absurd z (by omega)) (fun _ => ?_))
  obtain ⟨h1, h2, h3, h4⟩ := hs
  have hm : ra_m (k % 5) i < 5 := ra_mlt (c := 4) (by omega)
  rw [ra_4k]
  refine ra_memberOf (c := 4) (Or.inr ⟨rfl, rfl⟩) (by omega) ⟨pk_in i 4 (by omega), ?_⟩
  rw [show (4 * k + i) / 4 = k by omega, show (4 * k + i) % 4 = i by omega, nI_clamp (show i < 2 ^ 31 by omega)]
  refine ra_put hm (by omega) (nm_r (nI_1 i) (hw _ ⟨fun m r hr hn => ?_, fun j hj => ?_, fun j hj1 hj2 hf => ?_, by omega⟩))
  · rw [ra_Pu (by omega) hr (Or.inr hn)]
    exact h1 m r hr hn
  · rw [ra_Pu (by omega) (by omega) (Or.inl (fun z => absurd (ra_minj z) (by omega)))]
    exact h2 j hj
  · by_cases e1 : j = i
    · subst e1
      exact ra_Ps hf
    · rw [ra_Pu (by omega) (by omega) (Or.inl (fun z => absurd (ra_minj z) e1))]
      exact h3 j hj1 (by omega) hf
/-- the boundary moves over a row that was written -/
theorem ra_Jn {k f : Nat} {V a a' : Nat → Int32} (hk : k ≤ 5) (hJ : ra_J k V f a) (ho : ra_off k a a') (hR : ra_R 4 V f a' k) : ra_J (k + 1) V f a' := by
  refine ⟨fun r hr hr2 => ?_, fun r hr hr2 => ?_⟩
  · by_cases e : r = k
    · rw [e]; exact hR
    · exact ra_Rc (Or.inr rfl) (fun _ _ => rfl) (fun m _ _ => ho m r (by omega) e) (hJ.1 r (by omega) hr2)
  · exact ra_Rc (Or.inl rfl) (fun _ _ => rfl) (fun m _ _ => ho m r (by omega) (by omega)) (hJ.2 r (by omega) hr2)
theorem ra_m92 {post : St2 → Prop} {s1 s5 s6 : Int32} {a g : Nat → Int32} {f k pt : Nat} {V : Nat → Int32} (hk : k ≤ 5) (hp : 1 ≤ pt) (hp5 : pt ≤ 5) (hV : ∀ j, 24 ≤ j → V j = 0) (hJ : ra_J k V f a) (hg : ∀ i, i < 4 → g i = V (4 * k + i))
    (h3 : pt ≤ 3 → ∀ a', ra_off k a a' → post (s1, ra_F f, 1, nI k, s5, s6, a', g))
    (h4 : 4 ≤ pt → pt = 4 ∨ k < 5 → ∀ a', ra_J (k + 1) V f a' → post (s1, ra_F f, 1, nI (k + 1), 0, s6, a', g))
    (h5 : pt = 5 → k = 5 → ∀ a', ra_J 12 V f a' → post (s1, ra_F f, 2, 6, 0, s6, a', g)) :
    wX_moveGroup_92 post (nI pt) s1 (ra_F f) 1 (nI k) s5 s6 a g := by
  unfold wX_moveGroup_92
  refine pk_eq pt 1 (fun z => h3 (by omega) a (fun _ _ _ _ => rfl)) (fun z1 => ?_)
  refine ra_wwide (i0 := 0) (e := 2) hk (by omega) (by omega) (fun b o1 _ w1 => ?_)
  refine pk_eq pt 2 (fun z => h3 (by omega) b o1) (fun z2 => ?_)
  refine ra_wwide (i0 := 2) (e := 4) hk (by omega) (by omega) (fun c o2 k2 w2 => ⟨by decide, ?_⟩)
  rw [show nI k - nI k / 5 * 5 = nI (k % 5) from pk_rem (by omega) (by decide) (by decide)]
  refine ra_put (by omega) (by omega) ?_
  have ho : ∀ x, ra_off k a (ra_P f (k % 5) k x c) := fun x m r hr hn => by
    rw [ra_Pu (by omega) hr (Or.inr hn), o2 m r hr hn, o1 m r hr hn]
  have hR : ra_R 4 V f (ra_P f (k % 5) k (((g 0 ^^^ g 1) ^^^ g 2) ^^^ g 3) c) k := by
    intro m hm hf
    by_cases e : m = k % (4 + 1)
    · subst e
      rw [ra_Dp]
      refine (ra_Ps hf).trans ?_
      rw [hg 0 (by omega), hg 1 (by omega), hg 2 (by omega), hg 3 (by omega)]
      rfl
    · obtain ⟨j, hj, rfl⟩ := ra_mof hm e (Nat.mod_lt _ (by omega))
      rw [ra_Pu (by omega) (by omega) (Or.inl e), ra_Dm, ← hg j hj]
      by_cases e2 : j < 2
      · rw [k2 j e2]
        exact w1 j (by omega) e2 hf
      · exact w2 j (by omega) hj hf
  have hJ' := ra_Jn hk hJ (ho _) hR
  refine pk_eq pt 3 (fun z => h3 (by omega) _ (ho _)) (fun z3 => nm_r (nI_1 k) ?_)
  refine pk_le pt 4 (fun z => h4 (by omega) (Or.inl (by omega)) _ hJ') (fun z4 => ?_)
  refine pk_eq (k + 1) 6 (fun z => ?_) (fun z => h4 (by omega) (Or.inr (by omega)) _ hJ')
  have hk5 : k = 5 := by omega
  subst hk5
  exact ra_finish hV hJ' (fun a' hJ'' => h5 (by omega) rfl a' hJ'')
/-- what a move that was cut short leaves: all in order, or the copies stand for the first group -/
def ra_C (k : Nat) (V : Nat → Int32) (f : Nat) (cp : Int32) (a : Nat → Int32) : Prop :=
  (cp = 0 ∧ ra_J k V f a) ∨ (cp = 1 ∧ k = 0 ∧ (∀ r, 2 ≤ r → r < 12 → ra_R 2 V f a r) ∧ (∀ i, i < 4 → 3 ≠ f → ra_g a 3 (12 + i) = V i) ∧ (∀ i, i < 4 → 4 ≠ f → ra_g a 4 (12 + i) = V i))
theorem ra_m46 {post : St2 → Prop} {s1 s6 : Int32} {a g : Nat → Int32} {f pt : Nat} {V : Nat → Int32} (hp : 1 ≤ pt) (hp5 : pt ≤ 5) (hV : ∀ j, 24 ≤ j → V j = 0) (hJ : ra_J 0 V f a) (hg : ∀ i, i < 4 → g i = V i)
    (h3 : pt ≤ 3 → ∀ cp a', ra_C 0 V f cp a' → post (s1, ra_F f, 1, nI 0, cp, s6, a', g))
    (h4 : 4 ≤ pt → ∀ a', ra_J 1 V f a' → post (s1, ra_F f, 1, nI 1, 0, s6, a', g)) :
    ∃ n, wX_moveGroup_46 post (nI pt) n 0 s1 (ra_F f) 1 (nI 0) 0 s6 a g := by
  refine pk_loop (fun n i s => wX_moveGroup_46 post (nI pt) n (nI i) s1 (ra_F f) 1 (nI 0) 0 s6 s g) (fun i s => (∀ m r, r < 12 → ra_g s m r = ra_g a m r) ∧ (∀ j, j < i → 3 ≠ f → ra_g s 3 (12 + j) = g j) ∧ (∀ j, j < i → 4 ≠ f → ra_g s 4 (12 + j) = g j)) 4 0 a (by omega) ⟨fun _ _ _ => rfl, fun j hj => absurd hj (by omega), fun j hj => absurd hj (by omega)⟩ (fun n s hs => pk_le 4 4 (fun _ => ?_) (fun z => absurd z (by omega))) (fun n i s hi hs hw => pk_le 4 i (fun z => absurd z (by omega)) (fun _ => ⟨pk_in i 4 hi, ?_⟩))
  · obtain ⟨h1, h2, h2'⟩ := hs
    have hJs : ra_J 0 V f s := ⟨fun r hr => absurd hr (by omega), fun r hr hr2 => ra_Rc (Or.inl rfl) (fun _ _ => rfl) (fun m _ _ => h1 m r hr2) (hJ.2 r hr hr2)⟩
    refine ra_m92 (k := 0) (V := V) (by omega) hp hp5 hV hJs (fun i hi => by rw [Nat.mul_zero, Nat.zero_add]; exact hg i hi) (fun hp3 a' ho => h3 hp3 1 a' (Or.inr ⟨rfl, rfl, fun r hr hr2 => ?_, fun i hi hf => ?_, fun i hi hf => ?_⟩)) (fun hp4 _ a' hJ' => h4 hp4 a' hJ') (fun _ z => absurd z (by omega))
    · exact ra_Rc (Or.inl rfl) (fun _ _ => rfl) (fun m _ _ => ho m r (by omega) (by omega)) (hJs.2 r (by omega) hr2)
    · rw [ho 3 (12 + i) (by omega) (by omega), h2 i hi hf, hg i hi]
    · rw [ho 4 (12 + i) (by omega) (by omega), h2' i hi hf, hg i hi]
  · obtain ⟨h1, h2, h2'⟩ := hs
    rw [show 12 + nI i = nI (12 + i) from nI_add 12 i, nI_clamp (show i < 2 ^ 31 by omega)]
    refine ra_put (m := 3) (r := 12 + i) (by omega) (by omega) ⟨pk_in i 4 hi, ra_put (m := 4) (r := 12 + i) (by omega) (by omega) (nm_r (nI_1 i) (hw _ ⟨fun m r hr => ?_, fun j hj hf => ?_, fun j hj hf => ?_⟩))⟩
    · rw [ra_Pu (by omega) (by omega) (Or.inr (by omega)), ra_Pu (by omega) (by omega) (Or.inr (by omega))]
      exact h1 m r hr
    · rw [ra_Pu (by omega) (by omega) (Or.inl (by omega))]
      by_cases e : j = i
      · subst e
        exact ra_Ps hf
      · rw [ra_Pu (by omega) (by omega) (Or.inr (by omega))]
        exact h2 j (by omega) hf
    · by_cases e : j = i
      · subst e
        exact ra_Ps hf
      · rw [ra_Pu (by omega) (by omega) (Or.inr (by omega)), ra_Pu (by omega) (by omega) (Or.inr (by omega))]
        exact h2' j (by omega) hf
theorem ra_move {post : St2 → Prop} {s1 s6 : Int32} {a g0 : Nat → Int32} {f k pt : Nat} {V : Nat → Int32} (hk : k ≤ 5) (hp5 : pt ≤ 5) (hV : ∀ j, 24 ≤ j → V j = 0) (hJ : ra_J k V f a)
    (h3 : pt ≤ 3 → ∀ cp a' g, ra_C k V f cp a' → post (s1, ra_F f, 1, nI k, cp, s6, a', g))
    (h4 : 4 ≤ pt → pt = 4 ∨ k < 5 → ∀ a' g, ra_J (k + 1) V f a' → post (s1, ra_F f, 1, nI (k + 1), 0, s6, a', g))
    (h5 : pt = 5 → k = 5 → ∀ a' g, ra_J 12 V f a' → post (s1, ra_F f, 2, 6, 0, s6, a', g)) :
    wpX_moveGroup post (s1, ra_F f, 1, nI k, 0, s6, a, g0) (nI pt) := by
  refine pk_loop (fun n i s => wX_moveGroup_2 post (nI pt) s1 (ra_F f) 1 (nI k) 0 s6 n (nI i) a s) (fun i s => ∀ j, j < i → s j = V (4 * k + j)) 4 0 g0 (by omega) (fun j hj => absurd hj (by omega)) (fun n s hs => pk_le 4 4 (fun _ => pk_eq pt 0 (fun z => h3 (by omega) 0 a s (Or.inl ⟨rfl, hJ⟩)) (fun z0 => pk_eq k 0 (fun zk => ?_) (fun zk => ?_))) (fun z => absurd z (by omega))) (fun n i s hi hs hw => pk_le 4 i (fun z => absurd z (by omega)) (fun _ => ?_))
  · subst zk
    exact ra_m46 (by omega) hp5 hV hJ (fun i hi => by rw [hs i hi, Nat.mul_zero, Nat.zero_add]) (fun hp3 cp a' hC => h3 hp3 cp a' s hC) (fun hp4 a' hJ' => h4 hp4 (Or.inr (by omega)) a' s hJ')
  · refine ra_m92 hk (by omega) hp5 hV hJ hs (fun hp3 a' ho => h3 hp3 0 a' s (Or.inl ⟨rfl, fun r hr hr2 => ?_, fun r hr hr2 => ?_⟩)) (fun hp4 hq a' hJ' => h4 hp4 hq a' s hJ') (fun hp hq a' hJ' => h5 hp hq a' s hJ')
    · exact ra_Rc (Or.inr rfl) (fun _ _ => rfl) (fun m _ _ => ho m r (by omega) (by omega)) (hJ.1 r hr hr2)
    · exact ra_Rc (Or.inl rfl) (fun _ _ => rfl) (fun m _ _ => ho m r (by omega) (by omega)) (hJ.2 r hr hr2)
  · rw [ra_4k]
    refine ra_fetchFrom (c := 2) (V := V) (Or.inl ⟨rfl, rfl⟩) (by omega) (hJ.2 _ (by omega) (by omega)) ⟨pk_in i 4 hi, nm_r (by rw [nI_clamp (show i < 2 ^ 31 by omega)]) (nm_r (nI_1 i) (hw (upd s i (V (4 * k + i))) (fun j hj => ?_)))⟩
    by_cases e : j = i
    · rw [e]
      exact pk_us
    · rw [pk_un e]
      exact hs j (by omega)
theorem ra_step {post : Int32 → St2 → Prop} {s6 : Int32} {a g0 : Nat → Int32} {f k : Nat} {V : Nat → Int32} (hk : k ≤ 5) (hV : ∀ j, 24 ≤ j → V j = 0) (hJ : ra_J k V f a)
    (h4 : k < 5 → ∀ a' g, ra_J (k + 1) V f a' → post (nI (k + 1)) (1, ra_F f, 1, nI (k + 1), 0, s6, a', g))
    (h5 : k = 5 → ∀ a' g, ra_J 12 V f a' → post 6 (1, ra_F f, 2, 6, 0, s6, a', g)) :
    wpX_step post (1, ra_F f, 1, nI k, 0, s6, a, g0) :=
  br_f (by decide) (br_t (by rfl) (pk_eq k 6 (fun z => absurd z (by omega)) (fun _ => ra_move (pt := 5) hk (by omega) hV hJ (fun z => absurd z (by omega)) (fun _ hq a' g hJ' => h4 (by omega) a' g hJ') (fun _ hq a' g hJ' => h5 hq a' g hJ'))))
theorem ra_step2 {post : Int32 → St2 → Prop} {s2 mv s5 s6 : Int32} {a g0 : Nat → Int32} (h : post (-2) (1, s2, 2, mv, s5, s6, a, g0)) : wpX_step post (1, s2, 2, mv, s5, s6, a, g0) :=
  br_f (by decide) (br_f (by decide) h)
theorem ra_crash {post : Int32 → St2 → Prop} {s6 : Int32} {a g0 : Nat → Int32} {f k pt : Nat} {V : Nat → Int32} (hk : k ≤ 5) (hp4 : pt ≤ 4) (hV : ∀ j, 24 ≤ j → V j = 0) (hJ : ra_J k V f a)
    (h3 : pt ≠ 4 → ∀ cp a' g, ra_C k V f cp a' → post (nI k) (0, ra_F f, 1, nI k, cp, s6, a', g))
    (h4 : pt = 4 → ∀ a' g, ra_J (k + 1) V f a' → post (nI (k + 1)) (0, ra_F f, 1, nI (k + 1), 0, s6, a', g)) :
    wpX_stepCrash post (1, ra_F f, 1, nI k, 0, s6, a, g0) (nI pt) :=
  br_f (by decide) (br_t (by rfl) (pk_eq k 6 (fun z => absurd z (by omega)) (fun _ => br_f (nI_pos (by omega)) (pk_le pt 4 (fun _ => ra_move hk (by omega) hV hJ (fun hp cp a' g hC => h3 (by omega) cp a' g hC) (fun hp _ a' g hJ' => h4 (by omega) a' g hJ') (fun z => absurd z (by omega))) (fun z => absurd z (by omega))))))
end
section
/-! mount -/
theorem ra_tb49 {post : St2 → Prop} {s1 st mv s6 : Int32} {a g : Nat → Int32} {f : Nat} {V : Nat → Int32} (hg : ∀ i, i < 4 → g i = V i) (hR : ∀ r, 2 ≤ r → r < 12 → ra_R 2 V f a r) (h : ∀ a', ra_J 0 V f a' → post (s1, ra_F f, st, mv, 0, s6, a', g)) : ∃ n, wX_takeBack_49 post n 0 s1 (ra_F f) st mv 1 s6 a g := by
  refine pk_loop (fun n i s => wX_takeBack_49 post n (nI i) s1 (ra_F f) st mv 1 s6 s g) (fun i s => (∀ m r, r < 16 → 2 ≤ r → ra_g s m r = ra_g a m r) ∧ (∀ j, j < i → ra_m (j / 2 % (2 + 1)) (j % 2) ≠ f → ra_g s (ra_m (j / 2 % (2 + 1)) (j % 2)) (j / 2) = V j)) 4 0 a (by omega) ⟨fun _ _ _ _ => rfl, fun j hj => absurd hj (by omega)⟩ (fun n s hs => pk_le 4 4 (fun _ => ?_) (fun z => absurd z (by omega))) (fun n i s hi hs hw => pk_le 4 i (fun z => absurd z (by omega)) (fun _ => ?_))
  · obtain ⟨h1, h2⟩ := hs
    refine ra_put (m := 0) (r := 0) (by omega) (by omega) (ra_put (m := 1) (r := 1) (by omega) (by omega) (h _ ⟨fun r hr => absurd hr (by omega), fun r _ hr => ?_⟩))
    by_cases e0 : r = 0
    · subst e0
      intro m hm hf
      rw [ra_Pu (by omega) (by omega) (Or.inr (by omega))]
      by_cases e : m = 0 % (2 + 1)
      · subst e
        rw [ra_Dp]
        refine (ra_Ps hf).trans ?_
        rw [hg 0 (by omega), hg 1 (by omega)]
        rfl
      · obtain ⟨j, hj, rfl⟩ := ra_mof hm e (Nat.mod_lt _ (by omega))
        rw [ra_Pu (by omega) (by omega) (Or.inl e), ra_Dm, Nat.mul_zero, Nat.zero_add]
        have t := h2 j (by omega)
        rw [show j / 2 = 0 by omega, show j % 2 = j by omega] at t
        exact t hf
    · by_cases e1 : r = 1
      · subst e1
        intro m hm hf
        by_cases e : m = 1 % (2 + 1)
        · subst e
          rw [ra_Dp]
          refine (ra_Ps hf).trans ?_
          rw [hg 2 (by omega), hg 3 (by omega)]
          rfl
        · obtain ⟨j, hj, rfl⟩ := ra_mof hm e (Nat.mod_lt _ (by omega))
          rw [ra_Pu (by omega) (by omega) (Or.inl e), ra_Pu (by omega) (by omega) (Or.inr (by omega)), ra_Dm]
          have t := h2 (2 * 1 + j) (by omega)
          rw [show (2 * 1 + j) / 2 = 1 by omega, show (2 * 1 + j) % 2 = j by omega] at t
          exact t hf
      · refine ra_Rc (Or.inl rfl) (fun _ _ => rfl) (fun m _ _ => ?_) (hR r (by omega) hr)
        rw [ra_Pu (by omega) (by omega) (Or.inr (by omega)), ra_Pu (by omega) (by omega) (Or.inr (by omega))]
        exact h1 m r (by omega) (by omega)
  · obtain ⟨h1, h2⟩ := hs
    have hm : ra_m (i / 2 % (2 + 1)) (i % 2) < 2 + 1 := ra_mlt (by omega)
    refine ra_memberOf (c := 2) (Or.inl ⟨rfl, rfl⟩) (by omega) ⟨pk_in i 4 hi, ?_⟩
    rw [show nI i >>> ((1 : Int32) &&& 31) = nI (i / 2) from pk_shrN (by omega) _ 1 (by decide), nI_clamp (show i < 2 ^ 31 by omega)]
    refine ra_put (by omega) (by omega) (nm_r (nI_1 i) (hw _ ⟨fun m r hr h2r => ?_, fun j hj hf => ?_⟩))
    · rw [ra_Pu (by omega) hr (Or.inr (by omega))]
      exact h1 m r hr h2r
    · by_cases e : j = i
      · subst e
        rw [ra_Ps hf]
        exact hg j hi
      · rw [ra_Pu (by omega) (by omega) ?_]
        · exact h2 j (by omega) hf
        · by_cases e2 : j / 2 = i / 2
          · refine Or.inl (fun z => ?_)
            rw [e2] at z
            have t := ra_minj z
            omega
          · exact Or.inr e2
theorem ra_tb {post : St2 → Prop} {s1 st mv s6 : Int32} {a g0 : Nat → Int32} {f : Nat} {V : Nat → Int32} (hR : ∀ r, 2 ≤ r → r < 12 → ra_R 2 V f a r) (hc3 : ∀ i, i < 4 → 3 ≠ f → ra_g a 3 (12 + i) = V i) (hc4 : ∀ i, i < 4 → 4 ≠ f → ra_g a 4 (12 + i) = V i) (h : ∀ a' g, ra_J 0 V f a' → post (s1, ra_F f, st, mv, 0, s6, a', g)) : wpX_takeBack post (s1, ra_F f, st, mv, 1, s6, a, g0) := by
  have key : ∀ x, x < 5 → (∀ i, i < 4 → ra_g a x (12 + i) = V i) → ∃ n, wX_takeBack_16 post (nI x) s1 (ra_F f) st mv 1 s6 n 0 a g0 := by
    intro x hx hcx
    refine pk_loop (fun n i s => wX_takeBack_16 post (nI x) s1 (ra_F f) st mv 1 s6 n (nI i) a s) (fun i s => ∀ j, j < i → s j = V j) 4 0 g0 (by omega) (fun j hj => absurd hj (by omega)) (fun n s hs => pk_le 4 4 (fun _ => ra_tb49 hs hR (fun a' hJ => h a' s hJ)) (fun z => absurd z (by omega))) (fun n i s hi hs hw => pk_le 4 i (fun z => absurd z (by omega)) (fun _ => ?_))
    rw [show (nI x * 16 + 12) + nI i = nI (x * 16 + (12 + i)) by rw [show (12 : Int32) = nI 12 from rfl, ra_ix, nI_add, Nat.add_assoc], nI_clamp (show i < 2 ^ 31 by omega), nI_clamp (show x * 16 + (12 + i) < 2 ^ 31 by omega)]
    refine ⟨pk_in (x * 16 + (12 + i)) 80 (by omega), pk_in i 4 hi, nm_r (by rfl) (nm_r (nI_1 i) (hw (upd s i (ra_g a x (12 + i))) (fun j hj => ?_)))⟩
    by_cases e : j = i
    · rw [e]
      exact pk_us.trans (hcx i hi)
    · rw [pk_un e]
      exact hs j (by omega)
  refine ek_if ((eq_comm).trans (ra_Feq (m := 3) (by omega))) (fun z => key 4 (by omega) (fun i hi => hc4 i hi (by omega))) (fun z => key 3 (by omega) (fun i hi => hc3 i hi z))
theorem ra_m59 {post : Int32 → St2 → Prop} {s5 s6 : Int32} {a g : Nat → Int32} {f k : Nat} {V : Nat → Int32} (hk : k ≤ 6) (hV : ∀ j, 24 ≤ j → V j = 0) (hJ : ra_J k V f a)
    (h : k < 6 → post 0 (1, ra_F f, 1, nI k, s5, s6, a, g)) (h6 : k = 6 → ∀ a', ra_J 12 V f a' → post 0 (1, ra_F f, 2, 6, s5, s6, a', g)) :
    wX_mount_59 post 0 (ra_F f) 1 (nI k) s5 s6 a g := by
  unfold wX_mount_59
  refine br_t (by rfl) (pk_eq k 6 (fun z => ?_) (fun z => h (by omega)))
  subst z
  exact ra_finish hV hJ (fun a' hJ' => h6 rfl a' hJ')
/-- mount behind a step that was cut short -/
theorem ra_mountC {post : Int32 → St2 → Prop} {cp : Int32} {a g0 : Nat → Int32} {f k : Nat} {V : Nat → Int32} (hk : k ≤ 5) (hV : ∀ j, 24 ≤ j → V j = 0) (hC : ra_C k V f cp a)
    (h : ∀ a' g, ra_J k V f a' → post 0 (1, ra_F f, 1, nI k, 0, -1, a', g)) : wpX_mount post (0, ra_F f, 1, nI k, cp, -1, a, g0) := by
  refine br_t (by rfl) (br_t (by rfl) ?_)
  unfold wX_mount_48
  rcases hC with ⟨rfl, hJ⟩ | ⟨rfl, rfl, hR, h3, h4⟩
  · exact br_t (by rfl) (ra_m59 (by omega) hV hJ (fun _ => h a g0 hJ) (fun z => absurd z (by omega)))
  · exact br_f (by decide) (ra_tb hR h3 h4 (fun a' g hJ => ra_m59 (k := 0) (by omega) hV hJ (fun _ => h a' g hJ) (fun z => absurd z (by omega))))
/-- mount behind a step that moved the boundary -/
theorem ra_mount4 {post : Int32 → St2 → Prop} {a g0 : Nat → Int32} {f k : Nat} {V : Nat → Int32} (hk : k ≤ 6) (hV : ∀ j, 24 ≤ j → V j = 0) (hJ : ra_J k V f a)
    (h : k < 6 → post 0 (1, ra_F f, 1, nI k, 0, -1, a, g0)) (h6 : k = 6 → ∀ a', ra_J 12 V f a' → post 0 (1, ra_F f, 2, 6, 0, -1, a', g0)) : wpX_mount post (0, ra_F f, 1, nI k, 0, -1, a, g0) := by
  refine br_t (by rfl) (br_t (by rfl) ?_)
  unfold wX_mount_48
  exact br_t (by rfl) (ra_m59 hk hV hJ h h6)
end
section
/-! the sum, and the events of a run -/
def ra_tri : Nat → Nat
  | 0 => 0
  | n + 1 => ra_tri n + n
theorem ra_sumS {V : Nat → Int32} {n : Nat} : ra_sum V (n + 1) = ra_sum V n + V n := rfl
theorem ra_sumA (v t : Int32) (n : Nat) : n ≤ 24 → ra_sum (ra_V v t 24) n = nI n * v + nI (ra_tri n) * t := by
  induction n with
  | zero =>
    intro _
    show (0 : Int32) = 0 * v + 0 * t
    rw [Int32.zero_mul, Int32.zero_mul, Int32.add_zero]
  | succ n ih =>
    intro hn
    have e : ra_V v t 24 n = v + nI n * t := if_pos (by omega)
    rw [ra_sumS, ih (by omega), e, show ra_tri (n + 1) = ra_tri n + n from rfl, ← nI_add (ra_tri n) n, ← nI_1 n]
    rw [Int32.add_mul, Int32.add_mul, Int32.one_mul]
    ac_rfl
theorem ra_sumB (v t : Int32) (k : Nat) : ra_sum (ra_V v t 24) (24 + k) = 24 * v + 276 * t := by
  induction k with
  | zero => exact ra_sumA v t 24 (by omega)
  | succ k ih =>
    have e : ra_V v t 24 (24 + k) = 0 := if_neg (by omega)
    rw [← Nat.add_assoc, ra_sumS, ih, e, Int32.add_zero]
theorem ra_sumU {V : Nat → Int32} {b : Nat} {x : Int32} (n : Nat) : ra_sum (upd V b x) n = if b < n then ra_sum V n - V b + x else ra_sum V n := by
  induction n with
  | zero =>
    rw [if_neg (by omega)]
    rfl
  | succ n ih =>
    rw [ra_sumS, ra_sumS, ih]
    by_cases h : b < n
    · rw [if_pos h, if_pos (by omega), pk_un (by omega)]
      generalize ra_sum V n = y
      generalize V n = z
      generalize V b = w
      grind
    · rw [if_neg h]
      by_cases e : n = b
      · subst e
        rw [if_pos (by omega), pk_us]
        generalize ra_sum V n = y
        generalize V n = z
        grind
      · rw [if_neg (by omega), pk_un e]
theorem ra_sumT (v t x : Int32) {b : Nat} (hb : b < 24) : ra_sum (upd (ra_V v t 24) b x) 48 = (((24 * v) + (276 * t)) - (v + (t * nI b))) + x := by
  have e : ra_V v t 24 b = v + nI b * t := if_pos hb
  rw [ra_sumU, if_pos (by omega), ra_sumB v t 24, e, Int32.mul_comm t]
/-- the failed member when the turns below x have lost theirs and the turns below y have had theirs replaced -/
def ra_ff (lo bk m x y : Nat) : Nat := if lo < x ∧ ¬ (lo ≤ bk ∧ bk < y) then m else 5
theorem ra_ff1 {lo bk m x y : Nat} (h : lo < x ∧ ¬ (lo ≤ bk ∧ bk < y)) : ra_ff lo bk m x y = m := if_pos h
theorem ra_ff0 {lo bk m x y : Nat} (h : ¬ (lo < x ∧ ¬ (lo ≤ bk ∧ bk < y))) : ra_ff lo bk m x y = 5 := if_neg h
theorem ra_ffc {lo bk m x y x' y' : Nat} (h : (lo < x ∧ ¬ (lo ≤ bk ∧ bk < y)) ↔ (lo < x' ∧ ¬ (lo ≤ bk ∧ bk < y'))) : ra_ff lo bk m x y = ra_ff lo bk m x' y' := by
  by_cases e : lo < x ∧ ¬ (lo ≤ bk ∧ bk < y)
  · rw [ra_ff1 e, ra_ff1 (h.mp e)]
  · rw [ra_ff0 e, ra_ff0 (fun z => e (h.mpr z))]
/-- the blocks when the turns below x have had their write -/
def ra_vv (v t last : Int32) (b wr x : Nat) : Nat → Int32 := if wr < x then upd (ra_V v t 24) b last else ra_V v t 24
theorem ra_vv1 {v t last : Int32} {b wr x : Nat} (h : wr < x) : ra_vv v t last b wr x = upd (ra_V v t 24) b last := if_pos h
theorem ra_vv0 {v t last : Int32} {b wr x : Nat} (h : ¬ wr < x) : ra_vv v t last b wr x = ra_V v t 24 := if_neg h
theorem ra_vvc {v t last : Int32} {b wr x : Nat} (h : ¬ x = wr) : ra_vv v t last b wr (x + 1) = ra_vv v t last b wr x := by
  by_cases e : wr < x
  · rw [ra_vv1 e, ra_vv1 (by omega)]
  · rw [ra_vv0 e, ra_vv0 (by omega)]
theorem ra_vvz {v t last : Int32} {b wr x : Nat} (hb : b < 24) : ∀ j, 24 ≤ j → ra_vv v t last b wr x j = 0 := by
  intro j hj
  have e : ra_V v t 24 j = 0 := if_neg (by omega)
  by_cases h : wr < x
  · rw [ra_vv1 h, pk_un (by omega), e]
  · rw [ra_vv0 h, e]
/-- d groups are done, the disk is in order -/
def ra_Q (d f : Nat) (V : Nat → Int32) (st mv : Int32) (a : Nat → Int32) : Prop := (st = 1 ∧ mv = nI d ∧ d ≤ 5 ∧ ra_J d V f a) ∨ (st = 2 ∧ mv = 6 ∧ d = 6 ∧ ra_J 12 V f a)
theorem ra_QS {d f : Nat} {V : Nat → Int32} {st mv : Int32} {a : Nat → Int32} (h : ra_Q d f V st mv a) : ∃ K, ra_S st mv K ∧ ra_J K V f a ∧ (∀ f' V' a', ra_J K V' f' a' → ra_Q d f' V' st mv a') ∧ mv = nI d ∧ ¬ st = 0 ∧ 24 ≤ ra_z K := by
  rcases h with ⟨rfl, rfl, h5, hJ⟩ | ⟨rfl, rfl, rfl, hJ⟩
  · exact ⟨d, Or.inr (Or.inl ⟨rfl, rfl, h5⟩), hJ, fun f' V' a' h => Or.inl ⟨rfl, rfl, h5, h⟩, rfl, by decide, by rw [ra_zn h5]; omega⟩
  · exact ⟨12, Or.inr (Or.inr ⟨rfl, rfl, rfl⟩), hJ, fun f' V' a' h => Or.inr ⟨rfl, rfl, rfl, h⟩, rfl, by decide, by rw [ra_z12]; omega⟩
/-- how many groups are done ahead of turn i -/
def ra_d (br i d : Nat) : Prop := d ≤ 6 ∧ (i ≤ d ∨ d = 6 ∨ (br < i ∧ i ≤ d + 1))
end
section
/-! one turn of the law's loop -/
section
variable {post : Int32 → St0 → Prop} {mc ms : Nat} {J : Int32 → Int32 → Int32 → Int32 → Int32 → Int32 → Int32 → Int32 → (Nat → Int32) → (Nat → Int32) → Prop} {v t last : Int32} {br pt m lo bk b wr kc ks : Nat}
theorem ra_286 {i d : Nat} {F st mv : Int32} {a g : Nat → Int32} (hmv : mv = nI d) (h : J (nI d) (nI (i + 1)) 1 F st mv 0 (-1) a g) : wL_lawOf_286 post mc ms J v t last (nI br) (nI pt) (nI m) (nI lo) (nI bk) (nI b) (nI wr) (nI d) (nI i) kc ks 1 F st mv 0 (-1) a g := by
  unfold wL_lawOf_286
  exact br_t hmv (nm_r (nI_1 i) h)
theorem ra_251 {i d : Nat} {st mv : Int32} {a g V : Nat → Int32} (hm : m < 5) (hlo : lo < 8) (hbk : bk < 8) (hi : i < 8) (hQ : ra_Q d (ra_ff lo bk m (i + 1) i) V st mv a)
    (H : ∀ a', ra_Q d (ra_ff lo bk m (i + 1) (i + 1)) V st mv a' → J (nI d) (nI (i + 1)) 1 (ra_F (ra_ff lo bk m (i + 1) (i + 1))) st mv 0 (-1) a' g) :
    wL_lawOf_251 post mc ms J v t last (nI br) (nI pt) (nI m) (nI lo) (nI bk) (nI b) (nI wr) (nI d) (nI i) kc ks 1 (ra_F (ra_ff lo bk m (i + 1) i)) st mv 0 (-1) a g := by
  obtain ⟨K, hS, hJ, hq, hmv, _, _⟩ := ra_QS hQ
  unfold wL_lawOf_251
  refine pk_eq i bk (fun z => pk_lt bk lo (fun z2 => ?_) (fun z2 => ?_)) (fun z => ?_)
  · unfold wL_lawOf_272
    have e1 : ra_ff lo bk m (i + 1) i = 5 := ra_ff0 (by omega)
    have e2 : ra_ff lo bk m (i + 1) (i + 1) = 5 := ra_ff0 (by omega)
    rw [e1] at hJ ⊢
    rw [e2] at H
    exact ra_replaceN (br_t (by rfl) (ra_286 hmv (H a (hq 5 V a hJ))))
  · unfold wL_lawOf_272
    have e1 : ra_ff lo bk m (i + 1) i = m := ra_ff1 (by omega)
    have e2 : ra_ff lo bk m (i + 1) (i + 1) = 5 := ra_ff0 (by omega)
    rw [e1] at hJ ⊢
    rw [e2] at H
    exact ra_replace hS hm hJ (fun a' hJ' => br_t (by rfl) (ra_286 hmv (H a' (hq 5 V a' hJ'))))
  · have e : ra_ff lo bk m (i + 1) (i + 1) = ra_ff lo bk m (i + 1) i := ra_ffc (by omega)
    rw [e] at H
    exact ra_286 hmv (H a (hq _ V a hJ))
/-- a step: it moves the next group, or refuses when all six are done -/
theorem ra_211 {i d f : Nat} {st mv : Int32} {a g V : Nat → Int32} (hV : ∀ j, 24 ≤ j → V j = 0) (hQ : ra_Q d f V st mv a) (hd : ra_d br i d) (hi : i < 8)
    (hb : d < 6 → i ≠ br)
    (H : ∀ d' st' mv' a' g', ra_d br (i + 1) d' → ra_Q d' f V st' mv' a' → wL_lawOf_251 post mc ms J v t last (nI br) (nI pt) (nI m) (nI lo) (nI bk) (nI b) (nI wr) (nI d') (nI i) kc ks 1 (ra_F f) st' mv' 0 (-1) a' g') :
    wL_lawOf_211 post mc ms J v t last (nI br) (nI pt) (nI m) (nI lo) (nI bk) (nI b) (nI wr) (nI d) (nI i) kc ks 1 (ra_F f) st mv 0 (-1) a g := by
  obtain ⟨hd6, hdi⟩ := hd
  unfold wL_lawOf_211
  rcases hQ with ⟨rfl, rfl, h5, hJ⟩ | ⟨rfl, rfl, rfl, hJ⟩
  · refine pk_le 6 d (fun z => absurd z (by omega)) (fun z => ?_)
    unfold wL_lawOf_227
    have nd : ra_d br (i + 1) (d + 1) := ⟨by omega, by omega⟩
    refine ra_step h5 hV hJ (fun hk a' g' hJ' => br_t (nI_1 d).symm (pk_le 6 d (fun z => absurd z (by omega)) (fun z => nm_r (nI_1 d) (H (d + 1) _ _ a' g' nd (Or.inl ⟨rfl, rfl, by omega, hJ'⟩))))) (fun hk a' g' hJ' => ?_)
    subst hk
    exact br_t (by rfl) (pk_le 6 5 (fun z => absurd z (by omega)) (fun z => nm_r (nI_1 5) (H 6 _ _ a' g' nd (Or.inr ⟨rfl, rfl, rfl, hJ'⟩))))
  · refine pk_le 6 6 (fun z => ?_) (fun z => absurd z (by omega))
    unfold wL_lawOf_227
    exact ra_step2 (br_t (by rfl) (pk_le 6 6 (fun z => H 6 _ _ a g ⟨by omega, by omega⟩ (Or.inr ⟨rfl, rfl, rfl, hJ⟩)) (fun z => absurd z (by omega))))
/-- a step that power cuts short, and mount -/
theorem ra_179 {i d f : Nat} {a g V : Nat → Int32} (hpt : pt ≤ 4) (hV : ∀ j, 24 ≤ j → V j = 0) (hd : d ≤ 5) (hJ : ra_J d V f a) (d' : Nat) (hd' : d' = if pt = 4 then d + 1 else d)
    (H : ∀ st' mv' a' g', ra_Q d' f V st' mv' a' → wL_lawOf_251 post mc ms J v t last (nI br) (nI pt) (nI m) (nI lo) (nI bk) (nI b) (nI wr) (nI d') (nI i) kc ks 1 (ra_F f) st' mv' 0 (-1) a' g') :
    wL_lawOf_179 post mc ms J v t last (nI br) (nI pt) (nI m) (nI lo) (nI bk) (nI b) (nI wr) (nI d') (nI i) kc ks 1 (ra_F f) 1 (nI d) 0 (-1) a g := by
  unfold wL_lawOf_179
  refine ra_crash hd hpt hV hJ (fun hp cp a' g' hC => ?_) (fun hp a' g' hJ' => ?_)
  · rw [if_neg hp] at hd'
    subst hd'
    exact br_t (by rfl) (br_t (by rfl) (br_t (by rfl) (ra_mountC hd hV hC (fun a'' g'' hJ'' => br_t (by rfl) (H _ _ a'' g'' (Or.inl ⟨rfl, rfl, hd, hJ''⟩))))))
  · rw [if_pos hp] at hd'
    subst hd'
    refine br_t (by rfl) (br_t (by rfl) (br_t (by rfl) (ra_mount4 (by omega) hV hJ' (fun hk => br_t (by rfl) (H _ _ a' g' (Or.inl ⟨rfl, rfl, by omega, hJ'⟩))) (fun hk a'' hJ'' => br_t (by rfl) (H _ _ a'' g' (Or.inr ⟨rfl, rfl, hk, hJ''⟩))))))
theorem ra_156 {i d f : Nat} {st mv : Int32} {a g V : Nat → Int32} (hbr : br < 8) (hpt : pt ≤ 4) (hV : ∀ j, 24 ≤ j → V j = 0) (hQ : ra_Q d f V st mv a) (hd : ra_d br i d) (hi : i < 8)
    (H : ∀ d' st' mv' a' g', ra_d br (i + 1) d' → ra_Q d' f V st' mv' a' → wL_lawOf_251 post mc ms J v t last (nI br) (nI pt) (nI m) (nI lo) (nI bk) (nI b) (nI wr) (nI d') (nI i) kc ks 1 (ra_F f) st' mv' 0 (-1) a' g') :
    wL_lawOf_156 post mc ms J v t last (nI br) (nI pt) (nI m) (nI lo) (nI bk) (nI b) (nI wr) (nI d) (nI i) kc ks 1 (ra_F f) st mv 0 (-1) a g := by
  have hd6 := hd.1
  have hdi := hd.2
  unfold wL_lawOf_156
  refine pk_eq i br (fun z => pk_le 6 d (fun z6 => ra_211 hV hQ hd hi (fun w => absurd w (by omega)) H) (fun z6 => ?_)) (fun z => ra_211 hV hQ hd hi (fun _ => z) H)
  rcases hQ with ⟨rfl, rfl, h5, hJ⟩ | ⟨_, _, h6, _⟩
  · refine pk_eq pt 4 (fun zp => nm_r (nI_1 d) (ra_179 hpt hV h5 hJ (d + 1) (if_pos zp).symm (fun st' mv' a' g' hQ' => H (d + 1) st' mv' a' g' ⟨by omega, by omega⟩ hQ'))) (fun zp => ra_179 hpt hV h5 hJ d (if_neg zp).symm (fun st' mv' a' g' hQ' => H d st' mv' a' g' ⟨by omega, by omega⟩ hQ'))
  · omega
theorem ra_135 {i d f : Nat} {st mv : Int32} {a g : Nat → Int32} (hbr : br < 8) (hpt : pt ≤ 4) (hwr : wr < 8) (hb : b < 24) (hQ : ra_Q d f (ra_vv v t last b wr i) st mv a) (hd : ra_d br i d) (hi : i < 8)
    (H : ∀ d' st' mv' a' g', ra_d br (i + 1) d' → ra_Q d' f (ra_vv v t last b wr (i + 1)) st' mv' a' → wL_lawOf_251 post mc ms J v t last (nI br) (nI pt) (nI m) (nI lo) (nI bk) (nI b) (nI wr) (nI d') (nI i) kc ks 1 (ra_F f) st' mv' 0 (-1) a' g') :
    wL_lawOf_135 post mc ms J v t last (nI br) (nI pt) (nI m) (nI lo) (nI bk) (nI b) (nI wr) (nI d) (nI i) kc ks 1 (ra_F f) st mv 0 (-1) a g := by
  unfold wL_lawOf_135
  refine pk_eq i wr (fun z => ?_) (fun z => ?_)
  · obtain ⟨K, hS, hJ, hq, _, _, hz⟩ := ra_QS hQ
    refine ra_write hS hJ (by omega) (fun a' hJ' => br_t (by rfl) (ra_156 hbr hpt (ra_vvz hb) ?_ hd hi H))
    rw [ra_vv0 (by omega)] at hJ'
    rw [ra_vv1 (by omega)]
    exact hq _ _ a' hJ'
  · rw [← ra_vvc z] at hQ
    exact ra_156 hbr hpt (ra_vvz hb) hQ hd hi H
end
end
section
/-! the law -/
section
variable {post : Int32 → St0 → Prop} {mc ms : Nat} {v t last : Int32} {br pt m lo bk b wr kc ks : Nat}
theorem ra_328 {f : Nat} {a g : Nat → Int32} (hb : b < 24) (hJ : ra_J 12 (upd (ra_V v t 24) b last) f a) (h : post 1 ()) : ∃ n, wL_lawOf_328 post mc ms v t last (nI b) kc ks 1 (ra_F f) 2 6 0 (-1) a g n 0 := by
  have hS : ra_S 2 6 12 := Or.inr (Or.inr ⟨rfl, rfl, rfl⟩)
  refine pk_loop (σ := Unit) (fun n i _ => wL_lawOf_328 post mc ms v t last (nI b) kc ks 1 (ra_F f) 2 6 0 (-1) a g n (nI i)) (fun _ _ => True) 8 0 () (by omega) trivial (fun n _ _ => pk_le 8 8 (fun _ => ?_) (fun z => absurd z (by omega))) (fun n i _ hi _ hw => pk_le 8 i (fun z => absurd z (by omega)) (fun _ => ?_))
  · refine ra_read hS hJ (by rw [ra_z12]; omega) (br_t pk_us (ra_sumW hS hJ (br_t ?_ h)))
    rw [ra_z12]
    exact ra_sumT v t last hb
  · refine nm_r (pk_mul 3 i) (ra_read hS hJ (by rw [ra_z12]; omega) ?_)
    have e0 : upd (ra_V v t 24) b last (24 + 3 * i) = 0 := by
      rw [pk_un (by omega)]
      exact if_neg (by omega)
    have fin : ∀ z, upd (ra_V v t 24) b last (3 * i) = z → wL_lawOf_366 post mc ms (wL_lawOf_328 post mc ms v t last (nI b) kc ks 1 (ra_F f) 2 6 0 (-1) a g n) v t last (nI b) (nI i) (nI (3 * i)) z (upd (ra_V v t 24) b last (3 * i)) kc ks 1 (ra_F f) 2 6 0 (-1) a g := by
      intro z hz
      unfold wL_lawOf_366
      rw [show 24 + nI (3 * i) = nI (24 + 3 * i) from nI_add 24 (3 * i)]
      exact br_t hz (ra_read hS hJ (by rw [ra_z12]; omega) (br_t e0 (nm_r (nI_1 i) (hw () trivial))))
    refine pk_eq (3 * i) b (fun z => fin last (by rw [z]; exact pk_us)) (fun z => fin _ ?_)
    rw [pk_un z, Int32.mul_comm]
    exact if_pos (by omega)
theorem ra_109 {a g : Nat → Int32} (hbr : br < 8) (hpt : pt ≤ 4) (hm : m < 5) (hlo : lo < 8) (hbk : bk < 8) (hb : b < 24) (hwr : wr < 8) (hJ : ra_J 0 (ra_V v t 24) 5 a) (h : post 1 ()) :
    ∃ n, wL_lawOf_109 post mc ms v t last (nI br) (nI pt) (nI m) (nI lo) (nI bk) (nI b) (nI wr) kc ks n 0 0 1 (ra_F 5) 1 0 0 (-1) a g := by
  refine pk_loop (σ := Nat × Nat × Int32 × Int32 × (Nat → Int32) × (Nat → Int32)) (fun n i s => wL_lawOf_109 post mc ms v t last (nI br) (nI pt) (nI m) (nI lo) (nI bk) (nI b) (nI wr) kc ks n (nI s.1) (nI i) 1 (ra_F s.2.1) s.2.2.1 s.2.2.2.1 0 (-1) s.2.2.2.2.1 s.2.2.2.2.2) (fun i s => ra_d br i s.1 ∧ s.2.1 = ra_ff lo bk m i i ∧ ra_Q s.1 s.2.1 (ra_vv v t last b wr i) s.2.2.1 s.2.2.2.1 s.2.2.2.2.1) 8 0 (0, 5, 1, 0, a, g) (by omega) ?_ (fun n s hs => ?_) (fun n i s hi hs hw => ?_)
  · refine ⟨⟨by omega, by omega⟩, (ra_ff0 (by omega)).symm, Or.inl ⟨rfl, rfl, by omega, ?_⟩⟩
    rw [ra_vv0 (by omega)]
    exact hJ
  · obtain ⟨d, f, st, mv, a, g⟩ := s
    obtain ⟨⟨h6, hd⟩, rfl, hQ⟩ := hs
    dsimp only at h6 hd hQ ⊢
    have hd6 : d = 6 := by omega
    subst hd6
    rcases hQ with ⟨_, _, h5, _⟩ | ⟨rfl, rfl, _, hJ'⟩
    · omega
    · rw [ra_vv1 (by omega)] at hJ'
      exact pk_le 8 8 (fun _ => br_t (by rfl) (br_t (by rfl) (br_t (by rfl) (br_t (by rfl) (ra_328 hb hJ' h))))) (fun z => absurd z (by omega))
  · obtain ⟨d, f, st, mv, a, g⟩ := s
    obtain ⟨hd, rfl, hQ⟩ := hs
    dsimp only at hd hQ ⊢
    have K : ∀ (d' : Nat) (st' mv' : Int32) (a' g' : Nat → Int32), ra_d br (i + 1) d' → ra_Q d' (ra_ff lo bk m (i + 1) i) (ra_vv v t last b wr (i + 1)) st' mv' a' → wL_lawOf_251 post mc ms (wL_lawOf_109 post mc ms v t last (nI br) (nI pt) (nI m) (nI lo) (nI bk) (nI b) (nI wr) kc ks n) v t last (nI br) (nI pt) (nI m) (nI lo) (nI bk) (nI b) (nI wr) (nI d') (nI i) kc ks 1 (ra_F (ra_ff lo bk m (i + 1) i)) st' mv' 0 (-1) a' g' :=
      fun d' st' mv' a' g' hd' hQ' => ra_251 hm hlo hbk hi hQ' (fun a'' hQ'' => hw (d', ra_ff lo bk m (i + 1) (i + 1), st', mv', a'', g') ⟨hd', rfl, hQ''⟩)
    refine pk_le 8 i (fun z => absurd z (by omega)) (fun _ => pk_eq i lo (fun z => ?_) (fun z => ?_))
    · obtain ⟨k, hS, hJ', hq, _, hst, _⟩ := ra_QS hQ
      have e1 : ra_ff lo bk m i i = 5 := ra_ff0 (by omega)
      have e2 : ra_ff lo bk m (i + 1) i = m := ra_ff1 (by omega)
      rw [e1] at hJ' ⊢
      rw [e2] at K
      exact ra_fail hst hm hJ' (fun a' hJ'' => br_t (by rfl) (ra_135 hbr hpt hwr hb (hq _ _ a' hJ'') hd hi K))
    · have e : ra_ff lo bk m (i + 1) i = ra_ff lo bk m i i := ra_ffc (by omega)
      rw [e] at K
      exact ra_135 hbr hpt hwr hb hQ hd hi K
end
theorem ra_lawOf {post : Int32 → St0 → Prop} (p0 p1 p2 p3 p4 p5 : Int32) (h : post 1 ()) : wpL_lawOf post 3 92 () p0 p1 p2 p3 p4 p5 := by
  obtain ⟨br, hbr, ebr⟩ := pk_andE p2 (m := 7) 3 (by decide)
  obtain ⟨pt, hpt, ept⟩ := pk_andE (p2 >>> ((3 : Int32) &&& 31)) (m := 7) 3 (by decide)
  obtain ⟨m, hm, em⟩ := pk_andE p3 (m := 7) 3 (by decide)
  obtain ⟨lo, hlo, elo⟩ := pk_andE (p3 >>> ((3 : Int32) &&& 31)) (m := 7) 3 (by decide)
  obtain ⟨bk, hbk, ebk⟩ := pk_andE (p3 >>> ((6 : Int32) &&& 31)) (m := 7) 3 (by decide)
  obtain ⟨b, hb, eb⟩ := pk_andE p4 (m := 31) 5 (by decide)
  obtain ⟨wr, hwr, ewr⟩ := pk_andE (p4 >>> ((5 : Int32) &&& 31)) (m := 7) 3 (by decide)
  have e8 : ((p2 >>> ((3 : Int32) &&& 31)) &&& 7) - ((p2 >>> ((3 : Int32) &&& 31)) &&& 7) / 5 * 5 = nI (pt % 5) := by
    rw [ept]
    exact pk_rem (by omega) (by decide) (by decide)
  have e9 : (p3 &&& 7) - (p3 &&& 7) / 5 * 5 = nI (m % 5) := by
    rw [em]
    exact pk_rem (by omega) (by decide) (by decide)
  have e12 : (p4 &&& 31) - (p4 &&& 31) / 24 * 24 = nI (b % 24) := by
    rw [eb]
    exact pk_rem (by omega) (by decide) (by decide)
  refine ⟨by omega, by omega, 2, 84, by omega, by omega, by omega, by omega, by omega, by omega, ?_⟩
  refine nm_r ebr ⟨by decide, nm_r e8 ⟨by decide, nm_r e9 (nm_r elo (nm_r ebk ⟨by decide, nm_r e12 (nm_r ewr ?_)⟩))⟩⟩
  refine ra_fill (fun a hJ => br_t (by rfl) (br_f (by decide) (br_t (by rfl) (br_t ra_F5 (br_t (by rfl) (br_f (by decide) (br_t (by rfl) ?_)))))))
  exact ra_109 (by omega) (by omega) (by omega) (by omega) (by omega) (by omega) (by omega) hJ h
theorem ra_cell {post : Int32 → Prop} {L k : Nat} {xs : Nat → Int32} (hL : L ≤ 6) (hk : k < 6) (h : ∀ x, post x) : wpL_cellAt post L xs () (nI k) :=
  pk_le L k (fun _ => h 0) (fun z => ⟨pk_in k L z, h _⟩)
end
section
/-! ===== WHAT IS OWED for ReshapeArrayLaw: one statement: the law answers true on every script of L ints xs ===== -/
theorem i_vc (xs : Nat → Int32) (L : Nat) (hL : L ≤ 6) : wpL_law (fun r => r = 1) L xs :=
  ra_cell (k := 0) hL (by omega) (fun r1 => ra_cell (k := 1) hL (by omega) (fun r2 => ra_cell (k := 2) hL (by omega) (fun r3 => ra_cell (k := 3) hL (by omega) (fun r4 => ra_cell (k := 4) hL (by omega) (fun r5 => ra_cell (k := 5) hL (by omega) (fun r6 => ⟨3, 92, by omega, by omega, ra_lawOf r1 r2 r3 r4 r5 r6 rfl⟩))))))
end
