section
/-! ===== plain rows: bits of small masks, bytes, places of arrays ===== -/
theorem tp_z0 : ∀ k, k < 32 → (((0 : Int32) >>> (nI k &&& 31)) &&& 1) = 0 := by decide +kernel
theorem tp_b : ∀ n, n < 128 → (nI n).toInt8.toInt32 = nI n := by decide +kernel
theorem tp_zr {y : Int32} {k : Nat} (hk : k < 32) (h : y = 0) : ((y >>> (nI k &&& 31)) &&& 1) = 0 := by
  subst h
  exact tp_z0 k hk
theorem tp_or0 {y : Int32} (h : y = 0) : (0 : Int32) ||| y = 0 := by
  subst h
  decide
theorem tp_and0 {y x : Int32} (hx : x = 1 ∨ x = 2 ∨ x = 3) (h : y = 0) : y &&& x = 0 := by
  subst h
  rcases hx with rfl | rfl | rfl <;> decide
theorem tp_rx {x : Int32} (hx : x = 1 ∨ x = 2 ∨ x = 3) : x &&& ((0 : Int32) ^^^ (-1)) = x := by
  rcases hx with rfl | rfl | rfl <;> decide
theorem tp_hi1 : ∀ i, i < 7 → 2 ≤ i → (((1 : Int32) >>> (nI i &&& 31)) &&& 1) = 0 := by decide +kernel
theorem tp_hi2 : ∀ i, i < 7 → 2 ≤ i → (((2 : Int32) >>> (nI i &&& 31)) &&& 1) = 0 := by decide +kernel
theorem tp_hi3 : ∀ i, i < 7 → 2 ≤ i → (((3 : Int32) >>> (nI i &&& 31)) &&& 1) = 0 := by decide +kernel
theorem tp_hi {x : Int32} (hx : x = 1 ∨ x = 2 ∨ x = 3) {i : Nat} (hi : i < 7) (h2 : 2 ≤ i) : ((x >>> (nI i &&& 31)) &&& 1) = 0 := by
  rcases hx with rfl | rfl | rfl
  · exact tp_hi1 i hi h2
  · exact tp_hi2 i hi h2
  · exact tp_hi3 i hi h2
theorem tp_at {a : Nat → Int32} {i : Nat} {v : Int32} (h : a i = v) (hi : i < 2 ^ 31 := by omega) : a (nI i).toNatClampNeg = v := by
  rw [nI_clamp hi]
  exact h
theorem tp_fill {f s : Nat → Int32} {i k : Nat} {x : Int32} (hk : k = i) (h : ∀ j, j < i → s j = f j) (hx : x = f i) : ∀ j, j < i + 1 → upd s k x j = f j := by
  intro j hj
  rw [hk]
  by_cases e : j = i
  · rw [e, pk_us, hx]
  · rw [pk_un e]
    exact h j (by omega)
/-- what askOwn writes for a deadline y under the limit x -/
def tp_av (x y : Int32) : Int32 := if x ≤ y then x.toInt8.toInt32 else vp_nar .byte y
theorem tp_av_n {l d : Nat} (hl : l < 128) (hd : d < 128) : tp_av (nI l) (nI d) = nI (min d l) := by
  unfold tp_av
  by_cases h : l ≤ d
  · rw [if_pos (nI_le h (by omega)), tp_b l hl, Nat.min_eq_right h]
  · rw [if_neg (nI_ge (by omega) (by omega)), vp_nar_byte, tp_b d hd, Nat.min_eq_left (by omega)]
/-- whether the tasks p, with asked deadlines A and B of tasks 0 and 1, have a good timetable on m machines -/
def tp_gd (m p : Int32) (A B : Nat) : Int32 := if p = 3 ∧ m = 1 ∧ A = 1 ∧ B = 1 then 0 else 1
theorem tp_gd_b (m p : Int32) (A B : Nat) : narrow .boolean (.int (tp_gd m p A B)) = .int (tp_gd m p A B) := by
  unfold tp_gd
  split
  · rfl
  · rfl
theorem tp_gd_1 {m : Int32} {A B : Nat} : tp_gd m 1 A B = 1 := if_neg (fun h => absurd h.1 (by decide))
theorem tp_gd_2 {p : Int32} {A B : Nat} : tp_gd 2 p A B = 1 := if_neg (fun h => absurd h.2.1 (by decide))
theorem tp_gd_a {m p : Int32} {A B : Nat} (h : A ≠ 1) : tp_gd m p A B = 1 := if_neg (fun z => h z.2.2.1)
theorem tp_gd_c {m p : Int32} {A B : Nat} (h : B ≠ 1) : tp_gd m p A B = 1 := if_neg (fun z => h z.2.2.2)
theorem tp_gd_0 : tp_gd 1 3 1 1 = 0 := if_pos ⟨rfl, rfl, rfl, rfl⟩
end
section
/-! ===== the small methods, post general ===== -/
section
variable {m c p fk sk : Int32} {a1 a2 a3 a4 a5 a6 a7 : Nat → Int32}
theorem tp_c36 {post : St2 → Prop} {J : Int32 → (Nat → Int32) → (Nat → Int32) → (Nat → Int32) → (Nat → Int32) → (Nat → Int32) → (Nat → Int32) → (Nat → Int32) → Prop} {k : Nat} (hk : k < 7) (h0 : ∀ j, j < 7 → a3 j = 0) (H : J (nI (k + 1)) a1 a2 a3 a4 a5 a6 a7) : ∃ n, wX_close_36 post J (nI k) m c p fk sk n 0 a1 a2 a3 a4 a5 a6 a7 :=
  pk_loop (σ := Unit) (fun n i _ => wX_close_36 post J (nI k) m c p fk sk n (nI i) a1 a2 a3 a4 a5 a6 a7) (fun _ _ => True) 7 0 () (by omega) trivial
    (fun n _ _ => pk_le 7 7 (fun _ => nm_r (nI_1 k) H) (fun z => absurd z (by omega)))
    (fun n i _ hi _ hw => pk_le 7 i (fun z => absurd z (by omega)) (fun _ => ⟨pk_in i 7 hi, br_t (tp_zr (by omega) (tp_at (h0 i hi))) (nm_r (nI_1 i) (hw () trivial))⟩))
theorem tp_c28 {post : St2 → Prop} (h0 : ∀ j, j < 7 → a3 j = 0) (H : post (m, c, p, fk, sk, a1, a2, a3, a4, a5, a6, a7)) : ∃ n, wX_close_28 post m c p fk sk n 0 a1 a2 a3 a4 a5 a6 a7 :=
  pk_loop (σ := Unit) (fun n i _ => wX_close_28 post m c p fk sk n (nI i) a1 a2 a3 a4 a5 a6 a7) (fun _ _ => True) 7 0 () (by omega) trivial
    (fun n _ _ => pk_le 7 7 (fun _ => H) (fun z => absurd z (by omega)))
    (fun n i _ hi _ hw => pk_le 7 i (fun z => absurd z (by omega)) (fun _ => tp_c36 hi h0 (hw () trivial)))
/-- no links: nothing lies below any task -/
theorem tp_close {post : St2 → Prop} (h2 : ∀ j, j < 7 → a2 j = 0) (H : ∀ s : Nat → Int32, (∀ j, j < 7 → s j = 0) → post (m, c, p, fk, sk, a1, a2, s, a4, a5, a6, a7)) : wpX_close post (m, c, p, fk, sk, a1, a2, a3, a4, a5, a6, a7) :=
  pk_loop (fun n i s => wX_close_2 post m c p fk sk n (nI i) a1 a2 s a4 a5 a6 a7) (fun i s => ∀ j, j < i → s j = 0) 7 0 a3 (by omega) (fun j hj => absurd hj (by omega))
    (fun n s h => pk_le 7 7 (fun _ => tp_c28 h (H s h)) (fun z => absurd z (by omega)))
    (fun n i s hi h hw => pk_le 7 i (fun z => absurd z (by omega)) (fun _ => ⟨pk_in i 7 hi, pk_in i 7 hi, nm_e (nm_r (nI_1 i) (hw _ (tp_fill (f := fun _ => 0) (nI_clamp (by omega)) h (by rw [tp_at (h2 i hi)]; rfl))))⟩))
theorem tp_c36_2 {post : St2 → Prop} {J : Int32 → (Nat → Int32) → (Nat → Int32) → (Nat → Int32) → (Nat → Int32) → (Nat → Int32) → (Nat → Int32) → (Nat → Int32) → Prop} {k : Nat} (hk : k < 7) (h0 : ∀ j, j < 7 → a3 j = 0) (H : J (nI (k + 1)) a1 a2 a3 a4 a5 a6 a7) : ∃ n, wX_close_2_36 post J (nI k) m c p fk sk n 0 a1 a2 a3 a4 a5 a6 a7 :=
  pk_loop (σ := Unit) (fun n i _ => wX_close_2_36 post J (nI k) m c p fk sk n (nI i) a1 a2 a3 a4 a5 a6 a7) (fun _ _ => True) 7 0 () (by omega) trivial
    (fun n _ _ => pk_le 7 7 (fun _ => nm_r (nI_1 k) H) (fun z => absurd z (by omega)))
    (fun n i _ hi _ hw => pk_le 7 i (fun z => absurd z (by omega)) (fun _ => ⟨pk_in i 7 hi, br_t (tp_zr (by omega) (tp_at (h0 i hi))) (nm_r (nI_1 i) (hw () trivial))⟩))
theorem tp_c28_2 {post : St2 → Prop} (h0 : ∀ j, j < 7 → a3 j = 0) (H : post (m, c, p, fk, sk, a1, a2, a3, a4, a5, a6, a7)) : ∃ n, wX_close_2_28 post m c p fk sk n 0 a1 a2 a3 a4 a5 a6 a7 :=
  pk_loop (σ := Unit) (fun n i _ => wX_close_2_28 post m c p fk sk n (nI i) a1 a2 a3 a4 a5 a6 a7) (fun _ _ => True) 7 0 () (by omega) trivial
    (fun n _ _ => pk_le 7 7 (fun _ => H) (fun z => absurd z (by omega)))
    (fun n i _ hi _ hw => pk_le 7 i (fun z => absurd z (by omega)) (fun _ => tp_c36_2 hi h0 (hw () trivial)))
/-- no links: nothing lies below any task -/
theorem tp_close_2 {post : St2 → Prop} (h2 : ∀ j, j < 7 → a2 j = 0) (H : ∀ s : Nat → Int32, (∀ j, j < 7 → s j = 0) → post (m, c, p, fk, sk, a1, a2, s, a4, a5, a6, a7)) : wpX_close_2 post (m, c, p, fk, sk, a1, a2, a3, a4, a5, a6, a7) :=
  pk_loop (fun n i s => wX_close_2_2 post m c p fk sk n (nI i) a1 a2 s a4 a5 a6 a7) (fun i s => ∀ j, j < i → s j = 0) 7 0 a3 (by omega) (fun j hj => absurd hj (by omega))
    (fun n s h => pk_le 7 7 (fun _ => tp_c28_2 h (H s h)) (fun z => absurd z (by omega)))
    (fun n i s hi h hw => pk_le 7 i (fun z => absurd z (by omega)) (fun _ => ⟨pk_in i 7 hi, pk_in i 7 hi, nm_e (nm_r (nI_1 i) (hw _ (tp_fill (f := fun _ => 0) (nI_clamp (by omega)) h (by rw [tp_at (h2 i hi)]; rfl))))⟩))
theorem tp_ask0 {post : St2 → Prop} {x : Int32} (H : ∀ s : Nat → Int32, (∀ j, j < 7 → s j = tp_av x (a1 j)) → post (m, c, p, fk, sk, a1, a2, a3, s, a5, a6, a7)) : wpX_askOwn post (m, c, p, fk, sk, a1, a2, a3, a4, a5, a6, a7) x :=
  pk_loop (fun n i s => wX_askOwn_2 post x m c p fk sk n (nI i) a1 a2 a3 s a5 a6 a7) (fun i s => ∀ j, j < i → s j = tp_av x (a1 j)) 7 0 a4 (by omega) (fun j hj => absurd hj (by omega))
    (fun n s h => pk_le 7 7 (fun _ => H s h) (fun z => absurd z (by omega)))
    (fun n i s hi h hw => pk_le 7 i (fun z => absurd z (by omega)) (fun _ => ⟨pk_in i 7 hi, br_c
      (fun z => ⟨pk_in i 7 hi, nm_e (nm_r (nI_1 i) (hw _ (tp_fill (f := fun j => tp_av x (a1 j)) (nI_clamp (by omega)) h (by
        rw [nI_clamp (by omega)] at z
        exact (if_pos z).symm))))⟩)
      (fun z => ⟨pk_in i 7 hi, pk_in i 7 hi, nm_e (nm_r (nI_1 i) (hw _ (tp_fill (f := fun j => tp_av x (a1 j)) (nI_clamp (by omega)) h (by
        rw [nI_clamp (by omega)] at z ⊢
        exact (if_neg z).symm))))⟩)⟩))
/-- asked: the own deadlines A and B of tasks 0 and 1, none above l -/
theorem tp_ask {post : St2 → Prop} {x : Int32} {l A B : Nat} (hx : x = nI l) (hl : l ≤ 8) (hA : A ≤ 8) (hB : B ≤ 8) (h0 : a1 0 = nI A) (h1 : a1 1 = nI B) (H : ∀ s : Nat → Int32, s 0 = nI (min A l) → s 1 = nI (min B l) → post (m, c, p, fk, sk, a1, a2, a3, s, a5, a6, a7)) : wpX_askOwn post (m, c, p, fk, sk, a1, a2, a3, a4, a5, a6, a7) x := by
  subst hx
  refine tp_ask0 (fun s h => H s ?_ ?_)
  · rw [h 0 (by omega), h0]
    exact tp_av_n (by omega) (by omega)
  · rw [h 1 (by omega), h1]
    exact tp_av_n (by omega) (by omega)
theorem tp_free0 {post : Int32 → Prop} (H : post 0) : wpX_freeNumber post (m, 2, 0, fk, sk, a1, a2, a3, a4, a5, a6, a7) :=
  ⟨1, br_f (by decide) (br_t (by decide) H)⟩
theorem tp_free1 {post : Int32 → Prop} (H : post 1) : wpX_freeNumber post (m, 2, 1, fk, sk, a1, a2, a3, a4, a5, a6, a7) :=
  ⟨2, br_f (by decide) (br_f (by decide) (nm_r (e' := 1) (by decide) (br_f (by decide) (br_t (by decide) H))))⟩
theorem tp_free3 {post : Int32 → Prop} (H : post (-1)) : wpX_freeNumber post (m, 2, 3, fk, sk, a1, a2, a3, a4, a5, a6, a7) :=
  ⟨3, br_f (by decide) (br_f (by decide) (nm_r (e' := 1) (by decide) (br_f (by decide) (br_f (by decide) (nm_r (e' := 2) (by decide) (br_t (by decide) H))))))⟩
theorem tp_fol {post : Int32 → Prop} {k : Nat} {d : Int32} (hk : k < 7) (h3 : a3 k = 0) (H : post 0) : wpX_followersBy post (m, c, p, fk, sk, a1, a2, a3, a4, a5, a6, a7) (nI k) d :=
  pk_loop (σ := Unit) (fun n i _ => wX_followersBy_5 post (nI k) d m c p fk sk a1 a2 a3 a4 a5 a6 a7 n 0 (nI i)) (fun _ _ => True) 7 0 () (by omega) trivial
    (fun n _ _ => pk_le 7 7 (fun _ => H) (fun z => absurd z (by omega)))
    (fun n i _ hi _ hw => pk_le 7 i (fun z => absurd z (by omega)) (fun _ => ⟨pk_in k 7 hk, br_t (tp_zr (by omega) (tp_at h3)) (nm_r (nI_1 i) (hw () trivial))⟩))
/-- nothing below task k: its deadline is drawn as it was asked -/
theorem tp_draw {post : St2 → Prop} {k v : Nat} (hk : k < 7) (h3 : a3 k = 0) (hv : v ≤ 8) (h4 : a4 k = nI v) (H : post (m, c, p, fk, sk, a1, a2, a3, a4, upd a5 k (nI v), a6, a7)) : wpX_draw post (m, c, p, fk, sk, a1, a2, a3, a4, a5, a6, a7) (nI k) :=
  ⟨pk_in k 7 hk, nm_r (e' := nI v) (tp_at h4) (pk_loop (σ := Unit) (fun n i _ => wX_draw_9 post (nI k) m c p fk sk a1 a2 a3 a4 a5 a6 a7 n (nI v) (nI i)) (fun _ _ => True) 9 1 () (by omega) trivial
    (fun n _ _ => pk_lt 8 9 (fun _ => ⟨pk_in k 7 hk, nm_r (by rw [nI_clamp (by omega), tp_b v (by omega)]) H⟩) (fun z => absurd z (by omega)))
    (fun n i _ hi _ hw => pk_lt 8 i (fun z => absurd z (by omega)) (fun _ => tp_fol hk h3 (br_c
      (fun _ => br_t (by decide) (nm_r (nI_1 i) (hw () trivial)))
      (fun _ => br_t (by decide) (nm_r (nI_1 i) (hw () trivial)))))))⟩
/-- nothing below task k: its deadline is drawn as it was asked -/
theorem tp_draw_2 {post : St2 → Prop} {k v : Nat} (hk : k < 7) (h3 : a3 k = 0) (hv : v ≤ 8) (h4 : a4 k = nI v) (H : post (m, c, p, fk, sk, a1, a2, a3, a4, upd a5 k (nI v), a6, a7)) : wpX_draw_2 post (m, c, p, fk, sk, a1, a2, a3, a4, a5, a6, a7) (nI k) :=
  ⟨pk_in k 7 hk, nm_r (e' := nI v) (tp_at h4) (pk_loop (σ := Unit) (fun n i _ => wX_draw_2_9 post (nI k) m c p fk sk a1 a2 a3 a4 a5 a6 a7 n (nI v) (nI i)) (fun _ _ => True) 9 1 () (by omega) trivial
    (fun n _ _ => pk_lt 8 9 (fun _ => ⟨pk_in k 7 hk, nm_r (by rw [nI_clamp (by omega), tp_b v (by omega)]) H⟩) (fun z => absurd z (by omega)))
    (fun n i _ hi _ hw => pk_lt 8 i (fun z => absurd z (by omega)) (fun _ => tp_fol hk h3 (br_c
      (fun _ => br_t (by decide) (nm_r (nI_1 i) (hw () trivial)))
      (fun _ => br_t (by decide) (nm_r (nI_1 i) (hw () trivial)))))))⟩
theorem tp_wf0 {post : Int32 → Prop} {x : Int32} (hx : x = 1 ∨ x = 3) (h3 : a3 0 = 0) (H : post 0) : wpX_withoutFollowersIn post (m, c, p, fk, sk, a1, a2, a3, a4, a5, a6, a7) x := by
  rcases hx with rfl | rfl
  · exact ⟨1, br_f (by decide) (br_f (by decide) ⟨pk_in 0 7 (by omega), br_t (tp_and0 (Or.inl rfl) (tp_at (i := 0) h3)) H⟩)⟩
  · exact ⟨1, br_f (by decide) (br_f (by decide) ⟨pk_in 0 7 (by omega), br_t (tp_and0 (Or.inr (Or.inr rfl)) (tp_at (i := 0) h3)) H⟩)⟩
theorem tp_wf1 {post : Int32 → Prop} (h3 : a3 1 = 0) (H : post 1) : wpX_withoutFollowersIn post (m, c, p, fk, sk, a1, a2, a3, a4, a5, a6, a7) 2 :=
  ⟨2, br_f (by decide) (br_t (by decide) (nm_r (e' := 1) (by decide) (br_f (by decide) (br_f (by decide) ⟨pk_in 1 7 (by omega), br_t (tp_and0 (Or.inr (Or.inl rfl)) (tp_at (i := 1) h3)) H⟩))))⟩
theorem tp_ready {post : Int32 → Prop} {x : Int32} (hx : x = 1 ∨ x = 2 ∨ x = 3) (h2 : ∀ j, j < 7 → a2 j = 0) (H : post x) : wpX_readyIn post (m, c, p, fk, sk, a1, a2, a3, a4, a5, a6, a7) x :=
  pk_loop (σ := Unit) (fun n i _ => wX_readyIn_4 post x m c p fk sk a1 a2 a3 a4 a5 a6 a7 n 0 (nI i)) (fun _ _ => True) 7 0 () (by omega) trivial
    (fun n _ _ => pk_le 7 7 (fun _ => ek_v (P := post) (tp_rx hx) H) (fun z => absurd z (by omega)))
    (fun n i _ hi _ hw => pk_le 7 i (fun z => absurd z (by omega)) (fun _ => br_c
      (fun _ => nm_r (nI_1 i) (hw () trivial))
      (fun _ => ⟨pk_in i 7 hi, nm_r (e' := 0) (tp_or0 (tp_at (h2 i hi))) (nm_r (nI_1 i) (hw () trivial))⟩)))
end
section
variable (m c p fk sk : Int32) (a1 a2 a3 a4 a5 a6 a7 : Nat → Int32)
theorem tp_mt {post : Int32 → Prop} {x b : Int32} (hx : x = 1 ∨ x = 2 ∨ x = 3) (H : post b) : ∃ n, wX_mostUrgent_4 post x m c p fk sk a1 a2 a3 a4 a5 a6 a7 n b 2 :=
  pk_loop (σ := Unit) (fun n i _ => wX_mostUrgent_4 post x m c p fk sk a1 a2 a3 a4 a5 a6 a7 n b (nI i)) (fun i _ => 2 ≤ i) 7 2 () (by omega) (Nat.le_refl 2)
    (fun n _ _ => pk_le 7 7 (fun _ => H) (fun z => absurd z (by omega)))
    (fun n i _ hi h2 hw => pk_le 7 i (fun z => absurd z (by omega)) (fun _ => br_t (tp_hi hx hi h2) (nm_r (nI_1 i) (hw () (by omega)))))
end
section
variable {m c p fk sk : Int32} {a1 a2 a3 a4 a5 a6 a7 : Nat → Int32}
theorem tp_mu1 {post : Int32 → Prop} (H : post 0) : wpX_mostUrgent post (m, c, p, fk, sk, a1, a2, a3, a4, a5, a6, a7) 1 := by
  obtain ⟨n, hn⟩ := tp_mt m c p fk sk a1 a2 a3 a4 a5 a6 a7 (x := 1) (Or.inl rfl) H
  exact ⟨n + 2, br_f (by decide) (br_f (by decide) (br_t (by decide) (nm_r (e' := 1) (by decide) (br_f (by decide) (br_t (by decide) (nm_r (e' := 2) (by decide) hn))))))⟩
theorem tp_mu2 {post : Int32 → Prop} (H : post 1) : wpX_mostUrgent post (m, c, p, fk, sk, a1, a2, a3, a4, a5, a6, a7) 2 := by
  obtain ⟨n, hn⟩ := tp_mt m c p fk sk a1 a2 a3 a4 a5 a6 a7 (x := 2) (Or.inr (Or.inl rfl)) H
  exact ⟨n + 2, br_f (by decide) (br_t (by decide) (nm_r (e' := 1) (by decide) (br_f (by decide) (br_f (by decide) (br_t (by decide) (nm_r (e' := 2) (by decide) hn))))))⟩
theorem tp_mu3 {post : Int32 → Prop} {A B : Nat} (hA : A ≤ 8) (hB : B ≤ 8) (h0 : a5 0 = nI A) (h1 : a5 1 = nI B) (H0 : A ≤ B → post 0) (H1 : B < A → post 1) : wpX_mostUrgent post (m, c, p, fk, sk, a1, a2, a3, a4, a5, a6, a7) 3 := by
  by_cases h : A ≤ B
  · obtain ⟨n, hn⟩ := tp_mt m c p fk sk a1 a2 a3 a4 a5 a6 a7 (x := 3) (Or.inr (Or.inr rfl)) (H0 h)
    exact ⟨n + 2, br_f (by decide) (br_f (by decide) (br_t (by decide) (nm_r (e' := 1) (by decide) (br_f (by decide) (br_f (by decide) (br_f (by decide) ⟨pk_in 1 7 (by omega), pk_in 0 7 (by omega), pk_le A B (fun _ => nm_r (e' := 2) (by decide) hn) (fun z => absurd z (by omega)) (tp_at (i := 0) h0) (tp_at (i := 1) h1)⟩))))))⟩
  · obtain ⟨n, hn⟩ := tp_mt m c p fk sk a1 a2 a3 a4 a5 a6 a7 (x := 3) (Or.inr (Or.inr rfl)) (H1 (by omega))
    exact ⟨n + 2, br_f (by decide) (br_f (by decide) (br_t (by decide) (nm_r (e' := 1) (by decide) (br_f (by decide) (br_f (by decide) (br_f (by decide) ⟨pk_in 1 7 (by omega), pk_in 0 7 (by omega), pk_le A B (fun z => absurd z (by omega)) (fun _ => nm_r (e' := 2) (by decide) hn) (tp_at (i := 0) h0) (tp_at (i := 1) h1)⟩))))))⟩
end
end
section
/-! ===== dispatch: one task always fits; two fit unless there is one machine and both must be done in slot 0 ===== -/
section
variable {m c p fk sk : Int32} {a1 a2 a3 a4 a5 a6 a7 : Nat → Int32}
theorem tp_dis1 {post : Int32 → Prop} {A : Nat} (hm : m = 1 ∨ m = 2) (h2 : ∀ j, j < 7 → a2 j = 0) (hA : 1 ≤ A) (hA8 : A ≤ 8) (h5 : a5 0 = nI A) (H : post 1) : wpX_dispatch post (m, c, 1, fk, sk, a1, a2, a3, a4, a5, a6, a7) := by
  have E : wX_dispatch_7 post m c 1 fk sk a1 a2 a3 a4 a5 a6 a7 1 0 1 := br_f (by decide) (br_t rfl (br_t rfl H))
  refine ⟨2, br_f (by decide) (br_f (by decide) (tp_ready (Or.inl rfl) h2 ⟨2, ?_⟩))⟩
  rcases hm with rfl | rfl
  · exact br_f (by decide) (br_f (by decide) (tp_mu1 ⟨pk_in 0 7 (by omega), pk_lt 0 A (fun _ => nm_r (e' := 0) (by decide) (nm_r (e' := 0) (by decide) (nm_r (e' := 1) (by decide) (br_t (by decide) (nm_r (e' := 1) (by decide) E))))) (fun z => absurd z (by omega)) rfl (tp_at (i := 0) h5)⟩))
  · exact br_f (by decide) (br_f (by decide) (tp_mu1 ⟨pk_in 0 7 (by omega), pk_lt 0 A (fun _ => nm_r (e' := 0) (by decide) (nm_r (e' := 0) (by decide) (nm_r (e' := 1) (by decide) (br_f (by decide) (br_t rfl (nm_r (e' := 1) (by decide) E)))))) (fun z => absurd z (by omega)) rfl (tp_at (i := 0) h5)⟩))
/-- one machine, slot 1, task 1 waits -/
theorem tp_d1b {post : Int32 → Prop} {B : Nat} (h2 : ∀ j, j < 7 → a2 j = 0) (hB8 : B ≤ 8) (h51 : a5 1 = nI B) (H1 : 1 < B → post 1) (H0 : B ≤ 1 → post 0) : wX_dispatch_7 post 1 c 3 fk sk a1 a2 a3 a4 a5 a6 a7 2 2 1 :=
  br_f (by decide) (br_f (by decide) (tp_ready (Or.inr (Or.inl rfl)) h2 ⟨2, br_f (by decide) (br_f (by decide) (tp_mu2 ⟨pk_in 1 7 (by omega), pk_lt 1 B
    (fun z => nm_r (e' := 0) (by decide) (nm_r (e' := 0) (by decide) (nm_r (e' := 1) (by decide) (br_t (by decide) (nm_r (e' := 2) (by decide) (br_f (by decide) (br_t rfl (br_t rfl (H1 z)))))))))
    (fun z => H0 z) rfl (tp_at (i := 1) h51)⟩))⟩))
/-- one machine, slot 1, task 0 waits -/
theorem tp_d1a {post : Int32 → Prop} {A : Nat} (h2 : ∀ j, j < 7 → a2 j = 0) (hA : 1 < A) (hA8 : A ≤ 8) (h50 : a5 0 = nI A) (H1 : post 1) : wX_dispatch_7 post 1 c 3 fk sk a1 a2 a3 a4 a5 a6 a7 2 1 1 :=
  br_f (by decide) (br_f (by decide) (tp_ready (Or.inl rfl) h2 ⟨2, br_f (by decide) (br_f (by decide) (tp_mu1 ⟨pk_in 0 7 (by omega), pk_lt 1 A
    (fun z => nm_r (e' := 0) (by decide) (nm_r (e' := 0) (by decide) (nm_r (e' := 1) (by decide) (br_t (by decide) (nm_r (e' := 2) (by decide) (br_f (by decide) (br_t rfl (br_t rfl H1))))))))
    (fun z => absurd z (by omega)) rfl (tp_at (i := 0) h50)⟩))⟩))
theorem tp_dis31 {post : Int32 → Prop} {A B : Nat} (h2 : ∀ j, j < 7 → a2 j = 0) (hA : 1 ≤ A) (hA8 : A ≤ 8) (hB : 1 ≤ B) (hB8 : B ≤ 8) (h50 : a5 0 = nI A) (h51 : a5 1 = nI B) (H : post (tp_gd 1 3 A B)) : wpX_dispatch post (1, c, 3, fk, sk, a1, a2, a3, a4, a5, a6, a7) := by
  refine ⟨3, br_f (by decide) (br_f (by decide) (tp_ready (Or.inr (Or.inr rfl)) h2 ⟨2, br_f (by decide) (br_f (by decide) (tp_mu3 hA8 hB8 h50 h51 (fun hle => ?_) (fun hlt => ?_)))⟩))⟩
  · refine ⟨pk_in 0 7 (by omega), pk_lt 0 A (fun _ => nm_r (e' := 2) (by decide) (nm_r (e' := 2) (by decide) (nm_r (e' := 1) (by decide) (br_t (by decide) (nm_r (e' := 1) (by decide) (tp_d1b h2 hB8 h51 (fun z => ?_) (fun z => ?_))))))) (fun z => absurd z (by omega)) rfl (tp_at (i := 0) h50)⟩
    · rw [tp_gd_c (by omega)] at H
      exact H
    · have e1 : A = 1 := by omega
      have e2 : B = 1 := by omega
      subst e1 e2
      rw [tp_gd_0] at H
      exact H
  · refine ⟨pk_in 1 7 (by omega), pk_lt 0 B (fun _ => nm_r (e' := 1) (by decide) (nm_r (e' := 1) (by decide) (nm_r (e' := 1) (by decide) (br_t (by decide) (nm_r (e' := 1) (by decide) (tp_d1a h2 (by omega) hA8 h50 ?_)))))) (fun z => absurd z (by omega)) rfl (tp_at (i := 1) h51)⟩
    rw [tp_gd_a (by omega)] at H
    exact H
theorem tp_dis32 {post : Int32 → Prop} {A B : Nat} (h2 : ∀ j, j < 7 → a2 j = 0) (hA : 1 ≤ A) (hA8 : A ≤ 8) (hB : 1 ≤ B) (hB8 : B ≤ 8) (h50 : a5 0 = nI A) (h51 : a5 1 = nI B) (H : post 1) : wpX_dispatch post (2, c, 3, fk, sk, a1, a2, a3, a4, a5, a6, a7) := by
  have E : wX_dispatch_7 post 2 c 3 fk sk a1 a2 a3 a4 a5 a6 a7 1 0 1 := br_f (by decide) (br_t rfl (br_t rfl H))
  refine ⟨2, br_f (by decide) (br_f (by decide) (tp_ready (Or.inr (Or.inr rfl)) h2 ⟨3, br_f (by decide) (br_f (by decide) (tp_mu3 hA8 hB8 h50 h51 (fun hle => ?_) (fun hlt => ?_)))⟩))⟩
  · exact ⟨pk_in 0 7 (by omega), pk_lt 0 A (fun _ => nm_r (e' := 2) (by decide) (nm_r (e' := 2) (by decide) (nm_r (e' := 1) (by decide) (br_f (by decide) (br_f (by decide) (tp_mu2 ⟨pk_in 1 7 (by omega), pk_lt 0 B (fun _ => nm_r (e' := 0) (by decide) (nm_r (e' := 0) (by decide) (nm_r (e' := 2) (by decide) (br_t (by decide) (nm_r (e' := 1) (by decide) E))))) (fun z => absurd z (by omega)) rfl (tp_at (i := 1) h51)⟩)))))) (fun z => absurd z (by omega)) rfl (tp_at (i := 0) h50)⟩
  · exact ⟨pk_in 1 7 (by omega), pk_lt 0 B (fun _ => nm_r (e' := 1) (by decide) (nm_r (e' := 1) (by decide) (nm_r (e' := 1) (by decide) (br_f (by decide) (br_f (by decide) (tp_mu1 ⟨pk_in 0 7 (by omega), pk_lt 0 A (fun _ => nm_r (e' := 0) (by decide) (nm_r (e' := 0) (by decide) (nm_r (e' := 2) (by decide) (br_t (by decide) (nm_r (e' := 1) (by decide) E))))) (fun z => absurd z (by omega)) rfl (tp_at (i := 0) h50)⟩)))))) (fun z => absurd z (by omega)) rfl (tp_at (i := 1) h51)⟩
theorem tp_dis3 {post : Int32 → Prop} {A B : Nat} (hm : m = 1 ∨ m = 2) (h2 : ∀ j, j < 7 → a2 j = 0) (hA : 1 ≤ A) (hA8 : A ≤ 8) (hB : 1 ≤ B) (hB8 : B ≤ 8) (h50 : a5 0 = nI A) (h51 : a5 1 = nI B) (H : post (tp_gd m 3 A B)) : wpX_dispatch post (m, c, 3, fk, sk, a1, a2, a3, a4, a5, a6, a7) := by
  rcases hm with rfl | rfl
  · exact tp_dis31 h2 hA hA8 hB hB8 h50 h51 H
  · rw [tp_gd_2] at H
    exact tp_dis32 h2 hA hA8 hB hB8 h50 h51 H
/-! ===== good ===== -/
theorem tp_g321 {post : Int32 → St2 → Prop} {A : Nat} (hm : m = 1 ∨ m = 2) (h2 : ∀ j, j < 7 → a2 j = 0) (h3 : ∀ j, j < 7 → a3 j = 0) (hA : 1 ≤ A) (hA8 : A ≤ 8) (h4 : a4 0 = nI A) (H : ∀ s5 : Nat → Int32, post 1 (m, c, 1, fk, sk, a1, a2, a3, a4, s5, a6, a7)) : ∃ n, wX_good_32 post n 1 0 m c 1 fk sk a1 a2 a3 a4 a5 a6 a7 :=
  ⟨2, br_f (by decide) (br_f (by decide) (tp_wf0 (Or.inl rfl) (h3 0 (by omega)) (tp_draw (k := 0) (by omega) (h3 0 (by omega)) hA8 h4 ⟨pk_in 0 7 (by omega), pk_le 1 A (fun _ => nm_r (e' := 0) (by decide) (nm_r (e' := 1) (by decide) (br_f (by decide) (br_t rfl (tp_dis1 hm h2 hA hA8 pk_us ⟨rfl, H _⟩))))) (fun z => absurd z (by omega)) rfl (tp_at (i := 0) pk_us)⟩)))⟩
theorem tp_g323 {post : Int32 → St2 → Prop} {A B : Nat} (hm : m = 1 ∨ m = 2) (h2 : ∀ j, j < 7 → a2 j = 0) (h3 : ∀ j, j < 7 → a3 j = 0) (hA : 1 ≤ A) (hA8 : A ≤ 8) (hB : 1 ≤ B) (hB8 : B ≤ 8) (h4 : a4 0 = nI A) (h41 : a4 1 = nI B) (H : ∀ s5 : Nat → Int32, post (tp_gd m 3 A B) (m, c, 3, fk, sk, a1, a2, a3, a4, s5, a6, a7)) : ∃ n, wX_good_32 post n 3 0 m c 3 fk sk a1 a2 a3 a4 a5 a6 a7 :=
  ⟨3, br_f (by decide) (br_f (by decide) (tp_wf0 (Or.inr rfl) (h3 0 (by omega)) (tp_draw (k := 0) (by omega) (h3 0 (by omega)) hA8 h4 ⟨pk_in 0 7 (by omega), pk_le 1 A (fun _ => nm_r (e' := 2) (by decide) (nm_r (e' := 1) (by decide) (br_f (by decide) (br_f (by decide)
    (tp_wf1 (h3 1 (by omega)) (tp_draw (k := 1) (by omega) (h3 1 (by omega)) hB8 h41 ⟨pk_in 1 7 (by omega), pk_le 1 B (fun _ => nm_r (e' := 0) (by decide) (nm_r (e' := 2) (by decide) (br_f (by decide) (br_t rfl
      (tp_dis3 hm h2 hA hA8 hB hB8 ((pk_un (by omega)).trans pk_us) pk_us ⟨tp_gd_b m 3 A B, H _⟩))))) (fun z => absurd z (by omega)) rfl (tp_at (i := 1) pk_us)⟩)))))) (fun z => absurd z (by omega)) rfl (tp_at (i := 0) pk_us)⟩)))⟩
theorem tp_g6 {post : Int32 → St2 → Prop} (H : ∀ s5 : Nat → Int32, ∃ n, wX_good_32 post n p 0 m c p fk sk a1 a2 a3 a4 s5 a6 a7) : ∃ n, wX_good_6 post m c p fk sk n 0 a1 a2 a3 a4 a5 a6 a7 :=
  pk_loop (fun n i s => wX_good_6 post m c p fk sk n (nI i) a1 a2 a3 a4 s a6 a7) (fun _ _ => True) 7 0 a5 (by omega) trivial
    (fun n s _ => pk_le 7 7 (fun _ => H s) (fun z => absurd z (by omega)))
    (fun n i s hi _ hw => pk_le 7 i (fun z => absurd z (by omega)) (fun _ => ⟨pk_in i 7 hi, nm_e (nm_r (nI_1 i) (hw _ trivial))⟩))
/-- good answers tp_gd; it changes below (a3) and drawn (a5) alone -/
theorem tp_good {post : Int32 → St2 → Prop} {A B : Nat} (hm : m = 1 ∨ m = 2) (hp : p = 1 ∨ p = 3) (h2 : ∀ j, j < 7 → a2 j = 0) (hA : 1 ≤ A) (hA8 : A ≤ 8) (h4 : a4 0 = nI A) (hB : p = 3 → 1 ≤ B) (hB8 : B ≤ 8) (h41 : a4 1 = nI B) (H : ∀ s3 s5 : Nat → Int32, post (tp_gd m p A B) (m, c, p, fk, sk, a1, a2, s3, a4, s5, a6, a7)) : wpX_good post (m, c, p, fk, sk, a1, a2, a3, a4, a5, a6, a7) := by
  rcases hp with rfl | rfl
  · refine tp_close h2 (fun s3 h3 => tp_g6 (fun s5 => tp_g321 hm h2 h3 hA hA8 h4 (fun t5 => ?_)))
    have h := H s3 t5
    rw [tp_gd_1] at h
    exact h
  · exact tp_close h2 (fun s3 h3 => tp_g6 (fun s5 => tp_g323 hm h2 h3 hA hA8 (hB rfl) hB8 h4 h41 (fun t5 => H s3 t5)))
theorem tp_g321_2 {post : Int32 → St2 → Prop} {A : Nat} (hm : m = 1 ∨ m = 2) (h2 : ∀ j, j < 7 → a2 j = 0) (h3 : ∀ j, j < 7 → a3 j = 0) (hA : 1 ≤ A) (hA8 : A ≤ 8) (h4 : a4 0 = nI A) (H : ∀ s5 : Nat → Int32, post 1 (m, c, 1, fk, sk, a1, a2, a3, a4, s5, a6, a7)) : ∃ n, wX_good_2_32 post n 1 0 m c 1 fk sk a1 a2 a3 a4 a5 a6 a7 :=
  ⟨2, br_f (by decide) (br_f (by decide) (tp_wf0 (Or.inl rfl) (h3 0 (by omega)) (tp_draw_2 (k := 0) (by omega) (h3 0 (by omega)) hA8 h4 ⟨pk_in 0 7 (by omega), pk_le 1 A (fun _ => nm_r (e' := 0) (by decide) (nm_r (e' := 1) (by decide) (br_f (by decide) (br_t rfl (tp_dis1 hm h2 hA hA8 pk_us ⟨rfl, H _⟩))))) (fun z => absurd z (by omega)) rfl (tp_at (i := 0) pk_us)⟩)))⟩
theorem tp_g323_2 {post : Int32 → St2 → Prop} {A B : Nat} (hm : m = 1 ∨ m = 2) (h2 : ∀ j, j < 7 → a2 j = 0) (h3 : ∀ j, j < 7 → a3 j = 0) (hA : 1 ≤ A) (hA8 : A ≤ 8) (hB : 1 ≤ B) (hB8 : B ≤ 8) (h4 : a4 0 = nI A) (h41 : a4 1 = nI B) (H : ∀ s5 : Nat → Int32, post (tp_gd m 3 A B) (m, c, 3, fk, sk, a1, a2, a3, a4, s5, a6, a7)) : ∃ n, wX_good_2_32 post n 3 0 m c 3 fk sk a1 a2 a3 a4 a5 a6 a7 :=
  ⟨3, br_f (by decide) (br_f (by decide) (tp_wf0 (Or.inr rfl) (h3 0 (by omega)) (tp_draw_2 (k := 0) (by omega) (h3 0 (by omega)) hA8 h4 ⟨pk_in 0 7 (by omega), pk_le 1 A (fun _ => nm_r (e' := 2) (by decide) (nm_r (e' := 1) (by decide) (br_f (by decide) (br_f (by decide)
    (tp_wf1 (h3 1 (by omega)) (tp_draw_2 (k := 1) (by omega) (h3 1 (by omega)) hB8 h41 ⟨pk_in 1 7 (by omega), pk_le 1 B (fun _ => nm_r (e' := 0) (by decide) (nm_r (e' := 2) (by decide) (br_f (by decide) (br_t rfl
      (tp_dis3 hm h2 hA hA8 hB hB8 ((pk_un (by omega)).trans pk_us) pk_us ⟨tp_gd_b m 3 A B, H _⟩))))) (fun z => absurd z (by omega)) rfl (tp_at (i := 1) pk_us)⟩)))))) (fun z => absurd z (by omega)) rfl (tp_at (i := 0) pk_us)⟩)))⟩
theorem tp_g6_2 {post : Int32 → St2 → Prop} (H : ∀ s5 : Nat → Int32, ∃ n, wX_good_2_32 post n p 0 m c p fk sk a1 a2 a3 a4 s5 a6 a7) : ∃ n, wX_good_2_6 post m c p fk sk n 0 a1 a2 a3 a4 a5 a6 a7 :=
  pk_loop (fun n i s => wX_good_2_6 post m c p fk sk n (nI i) a1 a2 a3 a4 s a6 a7) (fun _ _ => True) 7 0 a5 (by omega) trivial
    (fun n s _ => pk_le 7 7 (fun _ => H s) (fun z => absurd z (by omega)))
    (fun n i s hi _ hw => pk_le 7 i (fun z => absurd z (by omega)) (fun _ => ⟨pk_in i 7 hi, nm_e (nm_r (nI_1 i) (hw _ trivial))⟩))
/-- good answers tp_gd; it changes below (a3) and drawn (a5) alone -/
theorem tp_good_2 {post : Int32 → St2 → Prop} {A B : Nat} (hm : m = 1 ∨ m = 2) (hp : p = 1 ∨ p = 3) (h2 : ∀ j, j < 7 → a2 j = 0) (hA : 1 ≤ A) (hA8 : A ≤ 8) (h4 : a4 0 = nI A) (hB : p = 3 → 1 ≤ B) (hB8 : B ≤ 8) (h41 : a4 1 = nI B) (H : ∀ s3 s5 : Nat → Int32, post (tp_gd m p A B) (m, c, p, fk, sk, a1, a2, s3, a4, s5, a6, a7)) : wpX_good_2 post (m, c, p, fk, sk, a1, a2, a3, a4, a5, a6, a7) := by
  rcases hp with rfl | rfl
  · refine tp_close_2 h2 (fun s3 h3 => tp_g6_2 (fun s5 => tp_g321_2 hm h2 h3 hA hA8 h4 (fun t5 => ?_)))
    have h := H s3 t5
    rw [tp_gd_1] at h
    exact h
  · exact tp_close_2 h2 (fun s3 h3 => tp_g6_2 (fun s5 => tp_g323_2 hm h2 h3 hA hA8 (hB rfl) hB8 h4 h41 (fun t5 => H s3 t5)))
end
end
section
/-! ===== the picture of a state: deadlines A and B of tasks 0 and 1, no links; add ===== -/
def tp_P (A B : Nat) (a1 a2 : Nat → Int32) : Prop := a1 0 = nI A ∧ a1 1 = nI B ∧ A ≤ 8 ∧ B ≤ 8 ∧ ∀ j, j < 7 → a2 j = 0
theorem tp_z2 {a : Nat → Int32} {k : Nat} (h : ∀ j, j < 7 → a j = 0) : ∀ j, j < 7 → upd a k 0 j = 0 := by
  intro j hj
  by_cases e : j = k
  · rw [e, pk_us]
  · rw [pk_un e]
    exact h j hj
theorem tp_Pz {A B k : Nat} {a1 a2 : Nat → Int32} (h : tp_P A B a1 a2) : tp_P A B a1 (upd a2 k 0) := ⟨h.1, h.2.1, h.2.2.1, h.2.2.2.1, tp_z2 h.2.2.2.2⟩
theorem tp_P0 {A B d : Nat} {a1 a2 : Nat → Int32} (h : tp_P A B a1 a2) (hd : d ≤ 8) : tp_P d B (upd a1 0 (nI d)) (upd a2 0 0) := ⟨pk_us, (pk_un (by omega)).trans h.2.1, hd, h.2.2.2.1, tp_z2 h.2.2.2.2⟩
theorem tp_P1 {A B d : Nat} {a1 a2 : Nat → Int32} (h : tp_P A B a1 a2) (hd : d ≤ 8) : tp_P A d (upd a1 1 (nI d)) (upd a2 1 0) := ⟨(pk_un (by omega)).trans h.1, pk_us, h.2.2.1, hd, tp_z2 h.2.2.2.2⟩
theorem tp_u {f : Nat → Int32} {k : Nat} {x v : Int32} (hx : x = v) (hk : k < 2 ^ 31 := by omega) : upd f (nI k).toNatClampNeg x = upd f k v := by
  rw [nI_clamp hk, hx]
section
variable {m c p fk sk : Int32} {a1 a2 a3 a4 a5 a6 a7 : Nat → Int32}
theorem tp_feas {post : Int32 → St2 → Prop} {A B : Nat} (hm : m = 1 ∨ m = 2) (hp : p = 1 ∨ p = 3) (h : tp_P A B a1 a2) (hA : 1 ≤ A) (hB : p = 3 → 1 ≤ B) (H : ∀ s3 s4 s5 : Nat → Int32, post (tp_gd m p A B) (m, c, p, fk, sk, a1, a2, s3, s4, s5, a6, a7)) : wpX_feasible post (m, c, p, fk, sk, a1, a2, a3, a4, a5, a6, a7) := by
  obtain ⟨h10, h11, hA8, hB8, h2⟩ := h
  unfold wpX_feasible
  exact tp_ask (l := 8) rfl (by omega) hA8 hB8 h10 h11 (fun s e0 e1 => tp_good hm hp h2 hA hA8 (e0.trans (by rw [Nat.min_eq_left hA8])) hB hB8 (e1.trans (by rw [Nat.min_eq_left hB8])) (fun s3 s5 => ⟨tp_gd_b m p A B, H s3 s s5⟩))
theorem tp_try0 {post : Int32 → St2 → Prop} {A B d : Nat} (hm : m = 1 ∨ m = 2) (h : tp_P A B a1 a2) (hd : 1 ≤ d) (hd8 : d ≤ 8) (H : ∀ s1 s2 s3 s4 s5 : Nat → Int32, tp_P d B s1 s2 → post 0 (m, 2, 0, fk, sk, s1, s2, s3, s4, s5, a6, a7)) : wpX_tryNew post (m, 2, 0, fk, sk, a1, a2, a3, a4, a5, a6, a7) (nI d) 0 := by
  unfold wpX_tryNew
  exact tp_free0 (br_t (by decide) ⟨pk_in 0 7 (by omega), nm_r (e' := upd a1 0 (nI d)) (tp_u (k := 0) (tp_b d (by omega))) ⟨pk_in 0 7 (by omega), nm_r (e' := upd a2 0 0) (tp_u (k := 0) (by decide)) (nm_r (e' := 1) (by decide)
    (tp_feas hm (Or.inl rfl) (tp_P0 h hd8) hd (fun z => absurd z (by decide)) (fun s3 s4 s5 => nm_r (e' := 0) (by decide) ⟨pk_in 0 7 (by omega), nm_r (e' := upd (upd a2 0 0) 0 0) (tp_u (k := 0) rfl) (br_f (by rw [tp_gd_1]; decide) (H _ _ s3 s4 s5 (tp_Pz (tp_P0 h hd8))))⟩)))⟩⟩)
theorem tp_try1 {post : Int32 → St2 → Prop} {A B d : Nat} (hm : m = 1 ∨ m = 2) (h : tp_P A B a1 a2) (hA : 1 ≤ A) (hd : 1 ≤ d) (hd8 : d ≤ 8) (H0 : tp_gd m 3 A d = 0 → ∀ s1 s2 s3 s4 s5 : Nat → Int32, tp_P A d s1 s2 → post (-3) (m, 2, 1, fk, sk, s1, s2, s3, s4, s5, a6, a7))
    (H1 : ¬ tp_gd m 3 A d = 0 → ∀ s1 s2 s3 s4 s5 : Nat → Int32, tp_P A d s1 s2 → post 1 (m, 2, 1, fk, sk, s1, s2, s3, s4, s5, a6, a7)) : wpX_tryNew post (m, 2, 1, fk, sk, a1, a2, a3, a4, a5, a6, a7) (nI d) 0 := by
  unfold wpX_tryNew
  exact tp_free1 (br_t (by decide) ⟨pk_in 1 7 (by omega), nm_r (e' := upd a1 1 (nI d)) (tp_u (k := 1) (tp_b d (by omega))) ⟨pk_in 1 7 (by omega), nm_r (e' := upd a2 1 0) (tp_u (k := 1) (by decide)) (nm_r (e' := 3) (by decide)
    (tp_feas hm (Or.inr rfl) (tp_P1 h hd8) hA (fun _ => hd) (fun s3 s4 s5 => nm_r (e' := 1) (by decide) ⟨pk_in 1 7 (by omega), nm_r (e' := upd (upd a2 1 0) 1 0) (tp_u (k := 1) rfl) (br_c (fun z => H0 z _ _ s3 s4 s5 (tp_Pz (tp_P1 h hd8))) (fun z => H1 z _ _ s3 s4 s5 (tp_Pz (tp_P1 h hd8))))⟩)))⟩⟩)
theorem tp_try3 {post : Int32 → St2 → Prop} {x y : Int32} (H : post (-2) (m, 2, 3, fk, sk, a1, a2, a3, a4, a5, a6, a7)) : wpX_tryNew post (m, 2, 3, fk, sk, a1, a2, a3, a4, a5, a6, a7) x y := by
  unfold wpX_tryNew
  exact tp_free3 (br_f (by decide) H)
/-- a deadline out of range -/
theorem tp_addBad {post : Int32 → St2 → Prop} {d : Int32} (hd : d < 1 ∨ 8 < d) (H : post (-1) (m, c, p, fk, sk, a1, a2, a3, a4, a5, a6, a7)) : wpX_add post (m, c, p, fk, sk, a1, a2, a3, a4, a5, a6, a7) d := by
  unfold wpX_add
  by_cases h : d < 1
  · exact br_t h (br_t (by decide) H)
  · exact br_f h (br_f (fun z => by
      rcases hd with w | w
      · exact h w
      · exact absurd z (Int32.not_le.mpr w)) (br_t (by decide) H))
theorem tp_add0 {post : Int32 → St2 → Prop} {A B d : Nat} (hm : m = 1 ∨ m = 2) (h : tp_P A B a1 a2) (hd : 1 ≤ d) (hd8 : d ≤ 8) (H : ∀ s1 s2 s3 s4 s5 : Nat → Int32, tp_P d B s1 s2 → post 0 (m, 2, 1, 0, 0, s1, s2, s3, s4, s5, a6, a7)) : wpX_add post (m, 2, 0, fk, sk, a1, a2, a3, a4, a5, a6, a7) (nI d) := by
  unfold wpX_add
  exact pk_lt d 1 (fun z => absurd z (by omega)) (fun _ => pk_le d 8 (fun _ => tp_try0 hm h hd hd8 (fun s1 s2 s3 s4 s5 h' => br_f (by decide)
    (nm_r (e' := 1) (by decide) ⟨pk_in 0 7 (by omega), nm_r (e' := upd s1 0 (nI d)) (tp_u (k := 0) (tp_b d (by omega))) ⟨pk_in 0 7 (by omega), nm_r (e' := upd s2 0 0) (tp_u (k := 0) rfl) (H _ _ s3 s4 s5 (tp_P0 h' hd8))⟩⟩))) (fun z => absurd z (by omega)))
/-- task 1 is taken, or refused: one machine, both deadlines 1 -/
theorem tp_add1 {post : Int32 → St2 → Prop} {A B d : Nat} (hm : m = 1 ∨ m = 2) (h : tp_P A B a1 a2) (hA : 1 ≤ A) (hd : 1 ≤ d) (hd8 : d ≤ 8) (H0 : tp_gd m 3 A d = 0 → ∀ s1 s2 s3 s4 s5 : Nat → Int32, tp_P A d s1 s2 → post (-3) (m, 2, 1, fk, sk, s1, s2, s3, s4, s5, a6, a7))
    (H1 : ¬ tp_gd m 3 A d = 0 → ∀ s1 s2 s3 s4 s5 : Nat → Int32, tp_P A d s1 s2 → post 1 (m, 2, 3, 0, 0, s1, s2, s3, s4, s5, a6, a7)) : wpX_add post (m, 2, 1, fk, sk, a1, a2, a3, a4, a5, a6, a7) (nI d) := by
  unfold wpX_add
  exact pk_lt d 1 (fun z => absurd z (by omega)) (fun _ => pk_le d 8 (fun _ => tp_try1 hm h hA hd hd8 (fun z s1 s2 s3 s4 s5 h' => br_t (by decide) (H0 z s1 s2 s3 s4 s5 h')) (fun z s1 s2 s3 s4 s5 h' => br_f (by decide)
    (nm_r (e' := 3) (by decide) ⟨pk_in 1 7 (by omega), nm_r (e' := upd s1 1 (nI d)) (tp_u (k := 1) (tp_b d (by omega))) ⟨pk_in 1 7 (by omega), nm_r (e' := upd s2 1 0) (tp_u (k := 1) rfl) (H1 z _ _ s3 s4 s5 (tp_P1 h' hd8))⟩⟩))) (fun z => absurd z (by omega)))
theorem tp_add3 {post : Int32 → St2 → Prop} {d : Nat} (hd : 1 ≤ d) (hd8 : d ≤ 8) (H : post (-2) (m, 2, 3, fk, sk, a1, a2, a3, a4, a5, a6, a7)) : wpX_add post (m, 2, 3, fk, sk, a1, a2, a3, a4, a5, a6, a7) (nI d) := by
  unfold wpX_add
  exact pk_lt d 1 (fun z => absurd z (by omega)) (fun _ => pk_le d 8 (fun _ => tp_try3 (br_t (by decide) H)) (fun z => absurd z (by omega)))
end
end
section
/-! ===== span, drawIn, earliest, tightest, slotOf ===== -/
theorem tp_pm {f : Nat → Int32} {k v : Nat} (h : f k = nI (v + 1)) (hk : k < 2 ^ 31 := by omega) : f (nI k).toNatClampNeg - 1 = nI v := by
  rw [tp_at h hk, nI_pred]
/-- the first slot for a task with the asked deadline V, r being whether deadline 1 is good -/
def tp_f (V : Nat) (r : Int32) : Nat := if V = 1 ∨ r = 1 then 0 else 1
theorem tp_f0 {V : Nat} {r : Int32} (h : V = 1 ∨ r = 1) : tp_f V r = 0 := if_pos h
theorem tp_f1 {V : Nat} {r : Int32} (h : ¬ (V = 1 ∨ r = 1)) : tp_f V r = 1 := if_neg h
theorem tp_f_le (V : Nat) (r : Int32) : tp_f V r ≤ 1 := by
  unfold tp_f
  split <;> omega
theorem tp_gd_01 (m p : Int32) (A B : Nat) : tp_gd m p A B = 0 ∨ tp_gd m p A B = 1 := by
  unfold tp_gd
  split
  · exact Or.inl rfl
  · exact Or.inr rfl
section
variable {m c p fk sk : Int32} {a1 a2 a3 a4 a5 a6 a7 : Nat → Int32}
theorem tp_span0 {post : Int32 → St2 → Prop} (H : post 0 (m, c, 0, fk, sk, a1, a2, a3, a4, a5, a6, a7)) : wpX_span post (m, c, 0, fk, sk, a1, a2, a3, a4, a5, a6, a7) := br_t rfl H
theorem tp_span1 {post : Int32 → St2 → Prop} {A B : Nat} (hm : m = 1 ∨ m = 2) (hp : p = 1 ∨ p = 3) (h : tp_P A B a1 a2) (hA : 1 ≤ A) (hB : p = 3 → 1 ≤ B) (hg : tp_gd m p (min A 1) (min B 1) = 1) (H : ∀ s3 s4 s5 : Nat → Int32, post 1 (m, c, p, fk, sk, a1, a2, s3, s4, s5, a6, a7)) : wpX_span post (m, c, p, fk, sk, a1, a2, a3, a4, a5, a6, a7) := by
  obtain ⟨h10, h11, hA8, hB8, h2⟩ := h
  have p0 : ¬ p = 0 := by rcases hp with rfl | rfl <;> decide
  exact br_f p0 ⟨1, br_f (by decide) (tp_ask (l := 1) rfl (by omega) hA8 hB8 h10 h11 (fun s e0 e1 => tp_good hm hp h2 (by omega) (by omega) e0 (fun z => by have := hB z; omega) (by omega) e1 (fun s3 s5 => br_f (by rw [hg]; decide) (H s3 s s5))))⟩
theorem tp_span2 {post : Int32 → St2 → Prop} {A B : Nat} (hm : m = 1 ∨ m = 2) (hp : p = 1 ∨ p = 3) (h : tp_P A B a1 a2) (hA : 1 ≤ A) (hB : p = 3 → 1 ≤ B) (hg : tp_gd m p (min A 1) (min B 1) = 0) (hg2 : tp_gd m p (min A 2) (min B 2) = 1) (H : ∀ s3 s4 s5 : Nat → Int32, post 2 (m, c, p, fk, sk, a1, a2, s3, s4, s5, a6, a7)) : wpX_span post (m, c, p, fk, sk, a1, a2, a3, a4, a5, a6, a7) := by
  obtain ⟨h10, h11, hA8, hB8, h2⟩ := h
  have p0 : ¬ p = 0 := by rcases hp with rfl | rfl <;> decide
  exact br_f p0 ⟨2, br_f (by decide) (tp_ask (l := 1) rfl (by omega) hA8 hB8 h10 h11 (fun s e0 e1 => tp_good hm hp h2 (by omega) (by omega) e0 (fun z => by have := hB z; omega) (by omega) e1 (fun s3 s5 => br_t hg (nm_r (e' := 2) (by decide)
    (br_f (by decide) (tp_ask (l := 2) rfl (by omega) hA8 hB8 h10 h11 (fun s e0 e1 => tp_good hm hp h2 (by omega) (by omega) e0 (fun z => by have := hB z; omega) (by omega) e1 (fun s3 s5 => br_f (by rw [hg2]; decide) (H s3 s s5)))))))))⟩
/-- drawIn of task k, g being what good answers for its deadlines -/
theorem tp_dr {post : Int32 → St2 → Prop} {k V : Nat} {g : Nat → Int32} (hk : k < 7) (hV : 1 ≤ V) (hV8 : V ≤ 8) (h4 : a4 k = nI V) (g1 : g 1 = 0 ∨ g 1 = 1) (g2 : g 2 = 1)
    (G : ∀ d, 1 ≤ d → d ≤ 8 → ∀ (q : Int32 → St2 → Prop) (s3 s4 s5 : Nat → Int32), s4 k = nI d → (∀ j, j ≠ k → s4 j = a4 j) → (∀ t3 t5 : Nat → Int32, q (g d) (m, c, p, fk, sk, a1, a2, t3, s4, t5, a6, a7)) → wpX_good q (m, c, p, fk, sk, a1, a2, s3, s4, s5, a6, a7))
    (H : ∀ s3 s4 s5 : Nat → Int32, s4 k = nI (tp_f V (g 1) + 1) → (∀ j, j ≠ k → s4 j = a4 j) → post (nI (tp_f V (g 1))) (m, c, p, fk, sk, a1, a2, s3, s4, s5, a6, a7)) : wpX_drawIn post (m, c, p, fk, sk, a1, a2, a3, a4, a5, a6, a7) (nI k) := by
  have D0 : ∀ (v : Nat) (x3 : Int32) (s3 s4 s5 : Nat → Int32), v ≤ 8 → v = tp_f V (g 1) + 1 → x3 = 0 → (∀ j, j ≠ k → s4 j = a4 j) → wX_drawIn_42 post (nI k) (nI v) x3 m c p fk sk a1 a2 s3 s4 s5 a6 a7 := fun v x3 s3 s4 s5 hv e e3 ho =>
    br_t e3 ⟨pk_in k 7 hk, nm_r (e' := upd s4 k (nI v)) (tp_u (tp_b v (by omega))) ⟨pk_in k 7 hk, ek_v (P := fun r => post r (m, c, p, fk, sk, a1, a2, s3, upd s4 k (nI v), s5, a6, a7)) (tp_pm (v := tp_f V (g 1)) (by rw [pk_us, e])) (H s3 _ s5 (by rw [pk_us, e]) (fun j hj => (pk_un hj).trans (ho j hj)))⟩⟩
  have D1 : ∀ (x2 x3 : Int32) (s3 s4 s5 : Nat → Int32), x3 = 1 → s4 k = nI (tp_f V (g 1) + 1) → (∀ j, j ≠ k → s4 j = a4 j) → wX_drawIn_42 post (nI k) x2 x3 m c p fk sk a1 a2 s3 s4 s5 a6 a7 := fun x2 x3 s3 s4 s5 e3 e ho =>
    br_f (by rw [e3]; decide) ⟨pk_in k 7 hk, ek_v (P := fun r => post r (m, c, p, fk, sk, a1, a2, s3, s4, s5, a6, a7)) (tp_pm e) (H s3 s4 s5 e ho)⟩
  refine ⟨pk_in k 7 hk, nm_r (e' := nI V) (tp_at h4) ⟨3, pk_le V 1 (fun z => ?_) (fun z => ?_)⟩⟩
  · have e1 : V = 1 := by omega
    exact D0 V 0 a3 a4 a5 hV8 (by rw [tp_f0 (Or.inl e1)]; exact e1) rfl (fun j _ => rfl)
  · refine br_t rfl ⟨pk_in k 7 hk, nm_r (e' := upd a4 k (nI 1)) (tp_u (by decide)) (G 1 (by omega) (by omega) _ a3 _ a5 pk_us (fun j hj => pk_un hj) (fun s3 s5 => nm_r (e' := 2) (by decide) ?_))⟩
    rcases g1 with g1 | g1
    · have ef : tp_f V (g 1) = 1 := tp_f1 (fun w => by
        rcases w with w | w
        · omega
        · rw [g1] at w
          exact absurd w (by decide))
      refine pk_le V 2 (fun w => ?_) (fun w => ?_)
      · exact D0 V (g 1) s3 _ s5 hV8 (by rw [ef]; omega) g1 (fun j hj => pk_un hj)
      · refine br_t g1 ⟨pk_in k 7 hk, nm_r (e' := upd (upd a4 k (nI 1)) k (nI 2)) (tp_u (by decide)) (G 2 (by omega) (by omega) _ s3 _ s5 pk_us (fun j hj => (pk_un hj).trans (pk_un hj)) (fun t3 t5 => nm_r (e' := 3) (by decide) ?_))⟩
        have X := D1 (nI V) (g 2) t3 (upd (upd a4 k (nI 1)) k (nI 2)) t5 g2 (by rw [pk_us, ef]) (fun j hj => (pk_un hj).trans (pk_un hj))
        exact br_c (fun _ => X) (fun _ => br_f (by rw [g2]; decide) X)
    · have ef : tp_f V (g 1) = 0 := tp_f0 (Or.inr g1)
      have X := D1 (nI V) (g 1) s3 (upd a4 k (nI 1)) s5 g1 (by rw [pk_us, ef]) (fun j hj => pk_un hj)
      exact br_c (fun _ => X) (fun _ => br_f (by rw [g1]; decide) X)
theorem tp_drA {post : Int32 → St2 → Prop} {A B : Nat} (hm : m = 1 ∨ m = 2) (hp : p = 1 ∨ p = 3) (h2 : ∀ j, j < 7 → a2 j = 0) (hA : 1 ≤ A) (hA8 : A ≤ 8) (h4 : a4 0 = nI A) (hB : p = 3 → 1 ≤ B) (hB8 : B ≤ 8) (h41 : a4 1 = nI B)
    (H : ∀ s3 s4 s5 : Nat → Int32, s4 0 = nI (tp_f A (tp_gd m p 1 B) + 1) → s4 1 = nI B → post (nI (tp_f A (tp_gd m p 1 B))) (m, c, p, fk, sk, a1, a2, s3, s4, s5, a6, a7)) : wpX_drawIn post (m, c, p, fk, sk, a1, a2, a3, a4, a5, a6, a7) 0 :=
  tp_dr (k := 0) (g := fun d => tp_gd m p d B) (by omega) hA hA8 h4 (tp_gd_01 m p 1 B) (tp_gd_a (by omega))
    (fun d hd hd8 q s3 s4 s5 e ho K => tp_good hm hp h2 hd hd8 e hB hB8 ((ho 1 (by omega)).trans h41) K)
    (fun s3 s4 s5 e ho => H s3 s4 s5 e ((ho 1 (by omega)).trans h41))
theorem tp_drB {post : Int32 → St2 → Prop} {A B : Nat} (hm : m = 1 ∨ m = 2) (h2 : ∀ j, j < 7 → a2 j = 0) (hA : 1 ≤ A) (hA8 : A ≤ 8) (h4 : a4 0 = nI A) (hB : 1 ≤ B) (hB8 : B ≤ 8) (h41 : a4 1 = nI B)
    (H : ∀ s3 s4 s5 : Nat → Int32, s4 0 = nI A → s4 1 = nI (tp_f B (tp_gd m 3 A 1) + 1) → post (nI (tp_f B (tp_gd m 3 A 1))) (m, c, 3, fk, sk, a1, a2, s3, s4, s5, a6, a7)) : wpX_drawIn post (m, c, 3, fk, sk, a1, a2, a3, a4, a5, a6, a7) 1 :=
  tp_dr (k := 1) (g := fun d => tp_gd m 3 A d) (by omega) hB hB8 h41 (tp_gd_01 m 3 A 1) (tp_gd_c (by omega))
    (fun d hd hd8 q s3 s4 s5 e ho K => tp_good hm (Or.inr rfl) h2 hA hA8 ((ho 0 (by omega)).trans h4) (fun _ => hd) hd8 e K)
    (fun s3 s4 s5 e ho => H s3 s4 s5 ((ho 0 (by omega)).trans h4) e)
/-- drawIn of task k, g being what good answers for its deadlines -/
theorem tp_dr_2 {post : Int32 → St2 → Prop} {k V : Nat} {g : Nat → Int32} (hk : k < 7) (hV : 1 ≤ V) (hV8 : V ≤ 8) (h4 : a4 k = nI V) (g1 : g 1 = 0 ∨ g 1 = 1) (g2 : g 2 = 1)
    (G : ∀ d, 1 ≤ d → d ≤ 8 → ∀ (q : Int32 → St2 → Prop) (s3 s4 s5 : Nat → Int32), s4 k = nI d → (∀ j, j ≠ k → s4 j = a4 j) → (∀ t3 t5 : Nat → Int32, q (g d) (m, c, p, fk, sk, a1, a2, t3, s4, t5, a6, a7)) → wpX_good_2 q (m, c, p, fk, sk, a1, a2, s3, s4, s5, a6, a7))
    (H : ∀ s3 s4 s5 : Nat → Int32, s4 k = nI (tp_f V (g 1) + 1) → (∀ j, j ≠ k → s4 j = a4 j) → post (nI (tp_f V (g 1))) (m, c, p, fk, sk, a1, a2, s3, s4, s5, a6, a7)) : wpX_drawIn_2 post (m, c, p, fk, sk, a1, a2, a3, a4, a5, a6, a7) (nI k) := by
  have D0 : ∀ (v : Nat) (x3 : Int32) (s3 s4 s5 : Nat → Int32), v ≤ 8 → v = tp_f V (g 1) + 1 → x3 = 0 → (∀ j, j ≠ k → s4 j = a4 j) → wX_drawIn_2_42 post (nI k) (nI v) x3 m c p fk sk a1 a2 s3 s4 s5 a6 a7 := fun v x3 s3 s4 s5 hv e e3 ho =>
    br_t e3 ⟨pk_in k 7 hk, nm_r (e' := upd s4 k (nI v)) (tp_u (tp_b v (by omega))) ⟨pk_in k 7 hk, ek_v (P := fun r => post r (m, c, p, fk, sk, a1, a2, s3, upd s4 k (nI v), s5, a6, a7)) (tp_pm (v := tp_f V (g 1)) (by rw [pk_us, e])) (H s3 _ s5 (by rw [pk_us, e]) (fun j hj => (pk_un hj).trans (ho j hj)))⟩⟩
  have D1 : ∀ (x2 x3 : Int32) (s3 s4 s5 : Nat → Int32), x3 = 1 → s4 k = nI (tp_f V (g 1) + 1) → (∀ j, j ≠ k → s4 j = a4 j) → wX_drawIn_2_42 post (nI k) x2 x3 m c p fk sk a1 a2 s3 s4 s5 a6 a7 := fun x2 x3 s3 s4 s5 e3 e ho =>
    br_f (by rw [e3]; decide) ⟨pk_in k 7 hk, ek_v (P := fun r => post r (m, c, p, fk, sk, a1, a2, s3, s4, s5, a6, a7)) (tp_pm e) (H s3 s4 s5 e ho)⟩
  refine ⟨pk_in k 7 hk, nm_r (e' := nI V) (tp_at h4) ⟨3, pk_le V 1 (fun z => ?_) (fun z => ?_)⟩⟩
  · have e1 : V = 1 := by omega
    exact D0 V 0 a3 a4 a5 hV8 (by rw [tp_f0 (Or.inl e1)]; exact e1) rfl (fun j _ => rfl)
  · refine br_t rfl ⟨pk_in k 7 hk, nm_r (e' := upd a4 k (nI 1)) (tp_u (by decide)) (G 1 (by omega) (by omega) _ a3 _ a5 pk_us (fun j hj => pk_un hj) (fun s3 s5 => nm_r (e' := 2) (by decide) ?_))⟩
    rcases g1 with g1 | g1
    · have ef : tp_f V (g 1) = 1 := tp_f1 (fun w => by
        rcases w with w | w
        · omega
        · rw [g1] at w
          exact absurd w (by decide))
      refine pk_le V 2 (fun w => ?_) (fun w => ?_)
      · exact D0 V (g 1) s3 _ s5 hV8 (by rw [ef]; omega) g1 (fun j hj => pk_un hj)
      · refine br_t g1 ⟨pk_in k 7 hk, nm_r (e' := upd (upd a4 k (nI 1)) k (nI 2)) (tp_u (by decide)) (G 2 (by omega) (by omega) _ s3 _ s5 pk_us (fun j hj => (pk_un hj).trans (pk_un hj)) (fun t3 t5 => nm_r (e' := 3) (by decide) ?_))⟩
        have X := D1 (nI V) (g 2) t3 (upd (upd a4 k (nI 1)) k (nI 2)) t5 g2 (by rw [pk_us, ef]) (fun j hj => (pk_un hj).trans (pk_un hj))
        exact br_c (fun _ => X) (fun _ => br_f (by rw [g2]; decide) X)
    · have ef : tp_f V (g 1) = 0 := tp_f0 (Or.inr g1)
      have X := D1 (nI V) (g 1) s3 (upd a4 k (nI 1)) s5 g1 (by rw [pk_us, ef]) (fun j hj => pk_un hj)
      exact br_c (fun _ => X) (fun _ => br_f (by rw [g1]; decide) X)
theorem tp_drA_2 {post : Int32 → St2 → Prop} {A B : Nat} (hm : m = 1 ∨ m = 2) (hp : p = 1 ∨ p = 3) (h2 : ∀ j, j < 7 → a2 j = 0) (hA : 1 ≤ A) (hA8 : A ≤ 8) (h4 : a4 0 = nI A) (hB : p = 3 → 1 ≤ B) (hB8 : B ≤ 8) (h41 : a4 1 = nI B)
    (H : ∀ s3 s4 s5 : Nat → Int32, s4 0 = nI (tp_f A (tp_gd m p 1 B) + 1) → s4 1 = nI B → post (nI (tp_f A (tp_gd m p 1 B))) (m, c, p, fk, sk, a1, a2, s3, s4, s5, a6, a7)) : wpX_drawIn_2 post (m, c, p, fk, sk, a1, a2, a3, a4, a5, a6, a7) 0 :=
  tp_dr_2 (k := 0) (g := fun d => tp_gd m p d B) (by omega) hA hA8 h4 (tp_gd_01 m p 1 B) (tp_gd_a (by omega))
    (fun d hd hd8 q s3 s4 s5 e ho K => tp_good_2 hm hp h2 hd hd8 e hB hB8 ((ho 1 (by omega)).trans h41) K)
    (fun s3 s4 s5 e ho => H s3 s4 s5 e ((ho 1 (by omega)).trans h41))
theorem tp_drB_2 {post : Int32 → St2 → Prop} {A B : Nat} (hm : m = 1 ∨ m = 2) (h2 : ∀ j, j < 7 → a2 j = 0) (hA : 1 ≤ A) (hA8 : A ≤ 8) (h4 : a4 0 = nI A) (hB : 1 ≤ B) (hB8 : B ≤ 8) (h41 : a4 1 = nI B)
    (H : ∀ s3 s4 s5 : Nat → Int32, s4 0 = nI A → s4 1 = nI (tp_f B (tp_gd m 3 A 1) + 1) → post (nI (tp_f B (tp_gd m 3 A 1))) (m, c, 3, fk, sk, a1, a2, s3, s4, s5, a6, a7)) : wpX_drawIn_2 post (m, c, 3, fk, sk, a1, a2, a3, a4, a5, a6, a7) 1 :=
  tp_dr_2 (k := 1) (g := fun d => tp_gd m 3 A d) (by omega) hB hB8 h41 (tp_gd_01 m 3 A 1) (tp_gd_c (by omega))
    (fun d hd hd8 q s3 s4 s5 e ho K => tp_good_2 hm (Or.inr rfl) h2 hA hA8 ((ho 0 (by omega)).trans h4) (fun _ => hd) hd8 e K)
    (fun s3 s4 s5 e ho => H s3 s4 s5 ((ho 0 (by omega)).trans h4) e)
theorem tp_hold0 {post : Int32 → Prop} (hp : p = 1 ∨ p = 3) (H : post 1) : wpX_holds post (m, 2, p, fk, sk, a1, a2, a3, a4, a5, a6, a7) 0 := by
  rcases hp with rfl | rfl
  · exact br_f (by decide) (br_f (by decide) (br_f (by decide) H))
  · exact br_f (by decide) (br_f (by decide) (br_f (by decide) H))
theorem tp_hold0n {post : Int32 → Prop} (H : post 0) : wpX_holds post (m, 2, 0, fk, sk, a1, a2, a3, a4, a5, a6, a7) 0 := br_f (by decide) (br_f (by decide) (br_t (by decide) H))
theorem tp_hold1 {post : Int32 → Prop} (H : post 1) : wpX_holds post (m, 2, 3, fk, sk, a1, a2, a3, a4, a5, a6, a7) 1 := br_f (by decide) (br_f (by decide) (br_f (by decide) H))
theorem tp_hold1n {post : Int32 → Prop} (hp : p = 0 ∨ p = 1) (H : post 0) : wpX_holds post (m, 2, p, fk, sk, a1, a2, a3, a4, a5, a6, a7) 1 := by
  rcases hp with rfl | rfl
  · exact br_f (by decide) (br_f (by decide) (br_t (by decide) H))
  · exact br_f (by decide) (br_f (by decide) (br_t (by decide) H))
theorem tp_earl {post : Int32 → St2 → Prop} {A B : Nat} (hm : m = 1 ∨ m = 2) (hp : p = 1 ∨ p = 3) (h : tp_P A B a1 a2) (hA : 1 ≤ A) (hB : p = 3 → 1 ≤ B) (H : ∀ s3 s4 s5 : Nat → Int32, post (nI (tp_f A (tp_gd m p 1 B))) (m, 2, p, fk, sk, a1, a2, s3, s4, s5, a6, a7)) : wpX_earliest post (m, 2, p, fk, sk, a1, a2, a3, a4, a5, a6, a7) 0 := by
  obtain ⟨h10, h11, hA8, hB8, h2⟩ := h
  unfold wpX_earliest
  exact tp_hold0 hp (br_f (by decide) (tp_ask (l := 8) rfl (by omega) hA8 hB8 h10 h11 (fun s e0 e1 => tp_drA hm hp h2 hA hA8 (e0.trans (by rw [Nat.min_eq_left hA8])) hB hB8 (e1.trans (by rw [Nat.min_eq_left hB8])) (fun s3 s4 s5 _ _ => H s3 s4 s5))))
theorem tp_earlN {post : Int32 → St2 → Prop} (H : post (-1) (m, 2, 0, fk, sk, a1, a2, a3, a4, a5, a6, a7)) : wpX_earliest post (m, 2, 0, fk, sk, a1, a2, a3, a4, a5, a6, a7) 0 := by
  unfold wpX_earliest
  exact tp_hold0n (br_t rfl H)
theorem tp_tight {post : Int32 → St2 → Prop} {A B : Nat} (hm : m = 1 ∨ m = 2) (hp : p = 1 ∨ p = 3) (h : tp_P A B a1 a2) (hA : 1 ≤ A) (hB : p = 3 → 1 ≤ B) (H : ∀ s3 s4 s5 : Nat → Int32, post (nI (tp_f A (tp_gd m p 1 B) + 1)) (m, 2, p, fk, sk, a1, a2, s3, s4, s5, a6, a7)) : wpX_tightest post (m, 2, p, fk, sk, a1, a2, a3, a4, a5, a6, a7) 0 := by
  unfold wpX_tightest
  exact tp_hold0 hp (br_f (by decide) (tp_earl hm hp h hA hB (fun s3 s4 s5 => ek_v (P := fun r => post r (m, 2, p, fk, sk, a1, a2, s3, s4, s5, a6, a7)) (nI_1 _) (H s3 s4 s5))))
theorem tp_tightN {post : Int32 → St2 → Prop} (H : post (-1) (m, 2, 0, fk, sk, a1, a2, a3, a4, a5, a6, a7)) : wpX_tightest post (m, 2, 0, fk, sk, a1, a2, a3, a4, a5, a6, a7) 0 := by
  unfold wpX_tightest
  exact tp_hold0n (br_t rfl H)
theorem tp_slot01 {post : Int32 → St2 → Prop} {A B : Nat} (hm : m = 1 ∨ m = 2) (h : tp_P A B a1 a2) (hA : 1 ≤ A) (H : ∀ s3 s4 s5 s6 : Nat → Int32, post (nI (tp_f A (tp_gd m 1 1 B))) (m, 2, 1, 1, sk, a1, a2, s3, s4, s5, s6, a7)) : wpX_slotOf post (m, 2, 1, 0, sk, a1, a2, a3, a4, a5, a6, a7) 0 := by
  obtain ⟨h10, h11, hA8, hB8, h2⟩ := h
  have hf := tp_f_le A (tp_gd m 1 1 B)
  unfold wpX_slotOf
  refine tp_hold0 (Or.inl rfl) (br_f (by decide) (br_t rfl (tp_ask (l := 8) rfl (by omega) hA8 hB8 h10 h11 (fun s e0 e1 => ⟨3, br_f (by decide) (tp_hold0 (Or.inl rfl) (br_f (by decide)
    (tp_drA_2 hm (Or.inl rfl) h2 hA hA8 (e0.trans (by rw [Nat.min_eq_left hA8])) (fun z => absurd z (by decide)) hB8 (e1.trans (by rw [Nat.min_eq_left hB8])) (fun s3 s4 s5 f0 f1 => ⟨pk_in 0 7 (by omega), nm_r (e' := upd a6 0 (nI (tp_f A (tp_gd m 1 1 B)))) (tp_u (k := 0) (tp_b _ (by omega))) (nm_r (e' := 1) (by decide)
      (br_f (by decide) (tp_hold1n (Or.inr rfl) (br_t rfl (nm_r (e' := 2) (by decide) (br_t (by decide) ⟨pk_in 0 7 (by omega), ?_⟩))))))⟩))))⟩))))
  exact ek_v (P := fun r => post r (m, 2, 1, 1, sk, a1, a2, s3, s4, s5, upd a6 0 (nI (tp_f A (tp_gd m 1 1 B))), a7)) (tp_at (i := 0) pk_us) (H s3 s4 s5 _)
theorem tp_slot03 {post : Int32 → St2 → Prop} {A B X Y : Nat} (hm : m = 1 ∨ m = 2) (h : tp_P A B a1 a2) (hA : 1 ≤ A) (hB : 1 ≤ B) (hX : X = tp_f A (tp_gd m 3 1 B)) (hY : Y = tp_f B (tp_gd m 3 (X + 1) 1)) (H : ∀ s3 s4 s5 s6 : Nat → Int32, s6 1 = nI Y → post (nI X) (m, 2, 3, 1, sk, a1, a2, s3, s4, s5, s6, a7)) : wpX_slotOf post (m, 2, 3, 0, sk, a1, a2, a3, a4, a5, a6, a7) 0 := by
  obtain ⟨h10, h11, hA8, hB8, h2⟩ := h
  have hf := tp_f_le A (tp_gd m 3 1 B)
  have hf2 := tp_f_le B (tp_gd m 3 (X + 1) 1)
  rw [← hX] at hf
  rw [← hY] at hf2
  unfold wpX_slotOf
  refine tp_hold0 (Or.inr rfl) (br_f (by decide) (br_t rfl (tp_ask (l := 8) rfl (by omega) hA8 hB8 h10 h11 (fun s e0 e1 => ⟨3, br_f (by decide) (tp_hold0 (Or.inr rfl) (br_f (by decide)
    (tp_drA_2 hm (Or.inr rfl) h2 hA hA8 (e0.trans (by rw [Nat.min_eq_left hA8])) (fun _ => hB) hB8 (e1.trans (by rw [Nat.min_eq_left hB8])) (fun s3 s4 s5 f0 f1 => ⟨pk_in 0 7 (by omega), nm_r (e' := upd a6 0 (nI X)) (tp_u (k := 0) (by rw [← hX]; exact tp_b _ (by omega))) (nm_r (e' := 1) (by decide)
      (br_f (by decide) (tp_hold1 (br_f (by decide)
        (tp_drB_2 (A := X + 1) hm h2 (by omega) (by omega) (by rw [hX]; exact f0) hB hB8 f1 (fun t3 t4 t5 k0 k1 => ⟨pk_in 1 7 (by omega), nm_r (e' := upd (upd a6 0 (nI X)) 1 (nI Y)) (tp_u (k := 1) (by rw [← hY]; exact tp_b _ (by omega))) (nm_r (e' := 2) (by decide) (br_t (by decide) ⟨pk_in 0 7 (by omega), ?_⟩))⟩))))))⟩))))⟩))))
  exact ek_v (P := fun r => post r (m, 2, 3, 1, sk, a1, a2, t3, t4, t5, upd (upd a6 0 (nI X)) 1 (nI Y), a7)) (tp_at (i := 0) ((pk_un (by omega)).trans pk_us)) (H t3 t4 t5 _ pk_us)
theorem tp_slot0n {post : Int32 → St2 → Prop} (H : post (-1) (m, 2, 0, fk, sk, a1, a2, a3, a4, a5, a6, a7)) : wpX_slotOf post (m, 2, 0, fk, sk, a1, a2, a3, a4, a5, a6, a7) 0 := by
  unfold wpX_slotOf
  exact tp_hold0n (br_t rfl H)
theorem tp_slot1n {post : Int32 → St2 → Prop} (hp : p = 0 ∨ p = 1) (H : post (-1) (m, 2, p, fk, sk, a1, a2, a3, a4, a5, a6, a7)) : wpX_slotOf post (m, 2, p, fk, sk, a1, a2, a3, a4, a5, a6, a7) 1 := by
  unfold wpX_slotOf
  exact tp_hold1n hp (br_t rfl H)
theorem tp_slot13 {post : Int32 → St2 → Prop} {Y : Nat} (h6 : a6 1 = nI Y) (H : post (nI Y) (m, 2, 3, 1, sk, a1, a2, a3, a4, a5, a6, a7)) : wpX_slotOf post (m, 2, 3, 1, sk, a1, a2, a3, a4, a5, a6, a7) 1 := by
  unfold wpX_slotOf
  exact tp_hold1 (br_f (by decide) (br_f (by decide) ⟨pk_in 1 7 (by omega), ek_v (P := fun r => post r (m, 2, 3, 1, sk, a1, a2, a3, a4, a5, a6, a7)) (tp_at (i := 1) h6) H⟩))
end
end
section
/-! ===== the law: what the calls answer, case by case, and its verdict ===== -/
theorem tp_bad {A B : Prop} {d : Int32} (hd : d < 1 ∨ 8 < d) (a : A) : (d < 1 → A) ∧ (¬ d < 1 → ((8 < d → A) ∧ (¬ 8 < d → B))) :=
  br_c (fun _ => a) (fun h => br_c (fun _ => a) (fun h8 => by
    rcases hd with w | w
    · exact absurd w h
    · exact absurd w h8))
theorem tp_fine {A B : Prop} {d : Int32} (h1 : ¬ d < 1) (h8 : ¬ 8 < d) (b : B) : (d < 1 → A) ∧ (¬ d < 1 → ((8 < d → A) ∧ (¬ 8 < d → B))) := br_f h1 (br_f h8 b)
theorem tp_range (d : Int32) : (d < 1 ∨ 8 < d) ∨ ∃ n : Nat, 1 ≤ n ∧ n ≤ 8 ∧ d = nI n := by
  by_cases h1 : d < 1
  · exact Or.inl (Or.inl h1)
  · by_cases h8 : 8 < d
    · exact Or.inl (Or.inr h8)
    · have h0 : ¬ d < 0 := fun z => h1 (Int32.lt_trans z (by decide))
      obtain ⟨n, hn, e⟩ := nI_of2 (M := 8) (n := 8) (by decide) h0 (Int32.not_lt.mp h8)
      refine Or.inr ⟨n, ?_, hn, e⟩
      rcases Nat.eq_zero_or_pos n with z | z
      · exact absurd (show d < 1 by rw [e, z]; decide) h1
      · exact z
theorem tp_n1 {n : Nat} (h1 : 1 ≤ n) (h8 : n ≤ 8) : ¬ nI n < 1 := nI_nlt (b := 1) h1 (by omega)
theorem tp_n8 {n : Nat} (h8 : n ≤ 8) : ¬ 8 < nI n := nI_nlt (a := 8) h8 (by omega)
theorem tp_e1 {x : Int32} (h1 : 1 ≤ x) (h2 : x < 2) : x = 1 := by
  have a : (1 : Int32).toInt ≤ x.toInt := Int32.le_iff_toInt_le.mp h1
  have b : x.toInt < (2 : Int32).toInt := Int32.lt_iff_toInt_lt.mp h2
  have e1 : (1 : Int32).toInt = 1 := by decide
  have e2 : (2 : Int32).toInt = 2 := by decide
  exact Int32.toInt_inj.mp (by omega)
theorem tp_e2 {x : Int32} (h1 : ¬ x < 2) (h2 : x ≤ 2) : x = 2 := by
  have a : (2 : Int32).toInt ≤ x.toInt := Int32.le_iff_toInt_le.mp (Int32.not_lt.mp h1)
  have b : x.toInt ≤ (2 : Int32).toInt := Int32.le_iff_toInt_le.mp h2
  exact Int32.toInt_inj.mp (by omega)
/-- one machine where fewer than two are asked, else two -/
theorem tp_init {post : St2 → Prop} {x : Int32} (H : ∀ m : Int32, (x < 2 → m = 1) → (¬ x < 2 → m = 2) → (m = 1 ∨ m = 2) → post (m, 2, 0, 0, 0, (fun _ => 0), (fun _ => 0), (fun _ => 0), (fun _ => 0), (fun _ => 0), (fun _ => 0), (fun _ => 0))) : wpX_init post 7 49 (0, 0, 0, 0, 0) x 2 := by
  refine ⟨by omega, by omega, by omega, by omega, by omega, by omega, by omega, by omega, by omega, by omega, by omega, by omega, by omega, by omega, br_c (fun h1 => br_c (fun h2 => ?_) (fun h2 => ?_)) (fun h1 => ?_)⟩
  · refine br_t (by decide) (br_t (by decide) (H x (fun h => tp_e1 h1 h) (fun h => tp_e2 h h2) ?_))
    by_cases h : x < 2
    · exact Or.inl (tp_e1 h1 h)
    · exact Or.inr (tp_e2 h h2)
  · refine br_t (by decide) (br_t (by decide) (H 2 (fun h => absurd (Int32.le_of_lt h) h2) (fun _ => rfl) (Or.inr rfl)))
  · refine br_t (by decide) (br_t (by decide) (H 1 (fun _ => rfl) (fun h => absurd (Int32.le_trans (by decide) (Int32.not_lt.mp h)) h1) (Or.inl rfl)))
theorem tp_Pi : tp_P 0 0 (fun _ => 0) (fun _ => 0) := ⟨rfl, rfl, by omega, by omega, fun _ _ => rfl⟩
section
variable {m c p fk sk : Int32} {a1 a2 a3 a4 a5 a6 a7 : Nat → Int32}
/-! one task alone -/
theorem tp_span11 {post : Int32 → St2 → Prop} {A B : Nat} (hm : m = 1 ∨ m = 2) (h : tp_P A B a1 a2) (hA : 1 ≤ A) (H : ∀ s3 s4 s5 : Nat → Int32, post 1 (m, c, 1, fk, sk, a1, a2, s3, s4, s5, a6, a7)) : wpX_span post (m, c, 1, fk, sk, a1, a2, a3, a4, a5, a6, a7) :=
  tp_span1 hm (Or.inl rfl) h hA (fun z => absurd z (by decide)) tp_gd_1 H
theorem tp_fs {m : Int32} (A B : Nat) : tp_f A (tp_gd m 1 1 B) = 0 := tp_f0 (Or.inr tp_gd_1)
theorem tp_earl1 {post : Int32 → St2 → Prop} {A B : Nat} (hm : m = 1 ∨ m = 2) (h : tp_P A B a1 a2) (hA : 1 ≤ A) (H : ∀ s3 s4 s5 : Nat → Int32, post 0 (m, 2, 1, fk, sk, a1, a2, s3, s4, s5, a6, a7)) : wpX_earliest post (m, 2, 1, fk, sk, a1, a2, a3, a4, a5, a6, a7) 0 :=
  tp_earl hm (Or.inl rfl) h hA (fun z => absurd z (by decide)) (fun s3 s4 s5 => by rw [tp_fs]; exact H s3 s4 s5)
theorem tp_tight1 {post : Int32 → St2 → Prop} {A B : Nat} (hm : m = 1 ∨ m = 2) (h : tp_P A B a1 a2) (hA : 1 ≤ A) (H : ∀ s3 s4 s5 : Nat → Int32, post 1 (m, 2, 1, fk, sk, a1, a2, s3, s4, s5, a6, a7)) : wpX_tightest post (m, 2, 1, fk, sk, a1, a2, a3, a4, a5, a6, a7) 0 :=
  tp_tight hm (Or.inl rfl) h hA (fun z => absurd z (by decide)) (fun s3 s4 s5 => by rw [tp_fs]; exact H s3 s4 s5)
theorem tp_slot1 {post : Int32 → St2 → Prop} {A B : Nat} (hm : m = 1 ∨ m = 2) (h : tp_P A B a1 a2) (hA : 1 ≤ A) (H : ∀ s3 s4 s5 s6 : Nat → Int32, post 0 (m, 2, 1, 1, sk, a1, a2, s3, s4, s5, s6, a7)) : wpX_slotOf post (m, 2, 1, 0, sk, a1, a2, a3, a4, a5, a6, a7) 0 :=
  tp_slot01 hm h hA (fun s3 s4 s5 s6 => by rw [tp_fs]; exact H s3 s4 s5 s6)
theorem tp_full1 {post : Int32 → St2 → Prop} {A B : Nat} (hm : m = 1 ∨ m = 2) (h : tp_P A B a1 a2) (hA : 1 ≤ A) (H : ∀ s1 s2 s3 s4 s5 : Nat → Int32, post 1 (m, 2, 3, 0, 0, s1, s2, s3, s4, s5, a6, a7)) : wpX_add post (m, 2, 1, fk, sk, a1, a2, a3, a4, a5, a6, a7) 8 :=
  tp_add1 (d := 8) hm h hA (by omega) (by omega) (fun z => absurd (z.symm.trans (tp_gd_c (by omega))) (by decide)) (fun _ s1 s2 s3 s4 s5 _ => H s1 s2 s3 s4 s5)
/-! both tasks -/
theorem tp_earl3 {post : Int32 → St2 → Prop} {A B X : Nat} (hm : m = 1 ∨ m = 2) (h : tp_P A B a1 a2) (hA : 1 ≤ A) (hB : 1 ≤ B) (hX : X = tp_f A (tp_gd m 3 1 B)) (H : ∀ s3 s4 s5 : Nat → Int32, post (nI X) (m, 2, 3, fk, sk, a1, a2, s3, s4, s5, a6, a7)) : wpX_earliest post (m, 2, 3, fk, sk, a1, a2, a3, a4, a5, a6, a7) 0 :=
  tp_earl hm (Or.inr rfl) h hA (fun _ => hB) (fun s3 s4 s5 => by rw [← hX]; exact H s3 s4 s5)
theorem tp_tight3 {post : Int32 → St2 → Prop} {A B X : Nat} (hm : m = 1 ∨ m = 2) (h : tp_P A B a1 a2) (hA : 1 ≤ A) (hB : 1 ≤ B) (hX : X = tp_f A (tp_gd m 3 1 B)) (H : ∀ s3 s4 s5 : Nat → Int32, post (nI (X + 1)) (m, 2, 3, fk, sk, a1, a2, s3, s4, s5, a6, a7)) : wpX_tightest post (m, 2, 3, fk, sk, a1, a2, a3, a4, a5, a6, a7) 0 :=
  tp_tight hm (Or.inr rfl) h hA (fun _ => hB) (fun s3 s4 s5 => by rw [← hX]; exact H s3 s4 s5)
end
theorem tp_lawOf (x y z : Int32) : wpL_lawOf (fun r _ => r = 1) 28 448 () x y z := by
  refine ⟨by omega, by omega, 7, 49, by omega, by omega, tp_init (fun m hm1 hm2 hm => ?_)⟩
  rcases tp_range y with hy | ⟨d, hd, hd8, rfl⟩
  · rcases tp_range z with hz | ⟨e, he, he8, rfl⟩
    · refine tp_addBad hy (tp_addBad hz (tp_span0 (tp_earlN (tp_tightN (tp_slot0n (tp_slot1n (Or.inl rfl) (tp_add0 (d := 8) hm tp_Pi (by omega) (by omega) (fun s1 s2 s3 s4 s5 _ => ?_))))))))
      exact tp_bad hy (tp_bad hz (br_t rfl (br_t rfl (br_t rfl (br_t rfl (br_t rfl (br_t rfl (br_t rfl (br_t rfl (br_t rfl (br_t rfl (br_t rfl (br_t rfl (br_t rfl (br_t rfl (br_t rfl (br_t rfl (br_t rfl (br_t rfl rfl)))))))))))))))))))
    · refine tp_addBad hy (tp_add0 (d := e) hm tp_Pi he he8 (fun s1 s2 s3 s4 s5 h => tp_span11 hm h he (fun _ _ _ => tp_earl1 hm h he (fun _ _ _ => tp_tight1 hm h he (fun _ _ _ => tp_slot1 hm h he (fun _ _ _ _ => tp_slot1n (Or.inr rfl) (tp_full1 hm h he (fun _ _ _ _ _ => ?_))))))))
      exact tp_bad hy (tp_fine (tp_n1 he he8) (tp_n8 he8) (br_t rfl (br_t rfl (br_f (by decide) (br_t rfl (br_t rfl (br_f (by decide) (br_t rfl (br_f (by decide) (br_t rfl (br_f (by decide) (br_t rfl (br_f (by decide) (br_t rfl (br_f (by decide) (br_t rfl (br_t rfl (br_f (by decide) (br_t rfl rfl)))))))))))))))))))
  · refine tp_add0 (d := d) hm tp_Pi hd hd8 (fun s1 s2 s3 s4 s5 h => ?_)
    rcases tp_range z with hz | ⟨e, he, he8, rfl⟩
    · refine tp_addBad hz (tp_span11 hm h hd (fun _ _ _ => tp_earl1 hm h hd (fun _ _ _ => tp_tight1 hm h hd (fun _ _ _ => tp_slot1 hm h hd (fun _ _ _ _ => tp_slot1n (Or.inr rfl) (tp_full1 hm h hd (fun _ _ _ _ _ => ?_)))))))
      exact tp_fine (tp_n1 hd hd8) (tp_n8 hd8) (tp_bad hz (br_f (by decide) (br_t rfl (br_f (by decide) (br_f (by decide) (br_t rfl (br_t rfl (br_t rfl (br_f (by decide) (br_t rfl (br_f (by decide) (br_t rfl (br_f (by decide) (br_t rfl (br_f (by decide) (br_t rfl (br_t rfl (br_f (by decide) (br_t rfl rfl)))))))))))))))))))
    · refine tp_add1 hm h hd he he8 (fun g s1 s2 s3 s4 s5 h => ?_) (fun g s1 s2 s3 s4 s5 h => ?_)
      · have q : m = 1 ∧ d = 1 ∧ e = 1 := by
          unfold tp_gd at g
          split at g
          · rename_i w
            exact w.2
          · exact absurd g (by decide)
        obtain ⟨q1, q2, q3⟩ := q
        have hx : x < 2 := by
          by_cases w : x < 2
          · exact w
          · exact absurd (q1.symm.trans (hm2 w)) (by decide)
        subst q2 q3
        refine tp_span11 hm h hd (fun _ _ _ => tp_earl1 hm h hd (fun _ _ _ => tp_tight1 hm h hd (fun _ _ _ => tp_slot1 hm h hd (fun _ _ _ _ => tp_slot1n (Or.inr rfl) (tp_full1 hm h hd (fun _ _ _ _ _ => ?_))))))
        exact tp_fine (tp_n1 hd hd8) (tp_n8 hd8) (tp_fine (tp_n1 he he8) (tp_n8 he8) (br_f (by decide) (br_f (by decide) (br_t hx (br_t rfl (br_t rfl (br_t rfl (br_t rfl (br_t rfl (br_t rfl (br_t rfl (br_t rfl (br_t rfl (br_t rfl (br_t rfl rfl)))))))))))))))
      · by_cases hx : x < 2
        · have q : m = 1 := hm1 hx
          subst q
          by_cases e1 : e = 1
          · subst e1
            have d1 : d ≠ 1 := fun w => by
              subst w
              exact g tp_gd_0
            have hX : 1 = tp_f d (tp_gd 1 3 1 1) := (tp_f1 (fun w => by
              rcases w with w | w
              · exact d1 w
              · rw [tp_gd_0] at w
                exact absurd w (by decide))).symm
            have hY : 0 = tp_f 1 (tp_gd 1 3 (1 + 1) 1) := (tp_f0 (Or.inl rfl)).symm
            refine tp_span2 hm (Or.inr rfl) h hd (fun _ => he) (by rw [Nat.min_eq_right hd]; exact tp_gd_0) (tp_gd_a (by omega)) (fun _ _ _ => tp_earl3 hm h hd he hX (fun _ _ _ => tp_tight3 hm h hd he hX (fun _ _ _ => tp_slot03 hm h hd he hX hY (fun _ _ _ _ h6 => tp_slot13 h6 (tp_add3 (d := 8) (by omega) (by omega) ?_)))))
            have d2 : ¬ nI d = 1 := fun w => d1 ((nI_eq (b := 1) (by omega) (by omega)).mp w)
            exact tp_fine (tp_n1 hd hd8) (tp_n8 hd8) (tp_fine (tp_n1 he he8) (tp_n8 he8) (br_f (by decide) (br_f (by decide) (br_t hx (br_t rfl (br_f d2 (br_t rfl (br_t (by decide) (br_t rfl (br_t rfl (br_t rfl (br_t rfl (br_t rfl (br_t (by decide) (br_t rfl (br_t rfl (br_t (by decide) (br_t rfl rfl))))))))))))))))))
          · have hX : 0 = tp_f d (tp_gd 1 3 1 e) := (tp_f0 (Or.inr (tp_gd_c e1))).symm
            have hY : 1 = tp_f e (tp_gd 1 3 (0 + 1) 1) := (tp_f1 (fun w => by
              rcases w with w | w
              · exact e1 w
              · rw [tp_gd_0] at w
                exact absurd w (by decide))).symm
            have e2 : ¬ nI e = 1 := fun w => e1 ((nI_eq (b := 1) (by omega) (by omega)).mp w)
            refine tp_span2 hm (Or.inr rfl) h hd (fun _ => he) (by rw [Nat.min_eq_right hd, Nat.min_eq_right he]; exact tp_gd_0) (tp_gd_c (by omega)) (fun _ _ _ => tp_earl3 hm h hd he hX (fun _ _ _ => tp_tight3 hm h hd he hX (fun _ _ _ => tp_slot03 hm h hd he hX hY (fun _ _ _ _ h6 => tp_slot13 h6 (tp_add3 (d := 8) (by omega) (by omega) ?_)))))
            have e3 : ¬ nI e ≤ 1 := nI_ge (a := 1) (by omega) (by omega)
            have V : wL_lawOf_325 (fun r _ => r = 1) 28 448 (nI e) 0 1 2 0 1 0 1 (-2) 0 (1 + 7) (12 + 49) := (br_t rfl (br_f e3 (br_t rfl (br_t rfl (br_t rfl (br_t rfl (br_t rfl (br_t (by decide) (br_t rfl (br_t rfl (br_t (by decide) (br_t rfl rfl))))))))))))
            exact tp_fine (tp_n1 hd hd8) (tp_n8 hd8) (tp_fine (tp_n1 he he8) (tp_n8 he8) (br_f (by decide) (br_f (by decide) (br_t hx (br_t rfl (br_c (fun _ => br_f e2 V) (fun _ => V)))))))
        · have q : m = 2 := hm2 hx
          subst q
          have hX : 0 = tp_f d (tp_gd 2 3 1 e) := (tp_f0 (Or.inr tp_gd_2)).symm
          have hY : 0 = tp_f e (tp_gd 2 3 (0 + 1) 1) := (tp_f0 (Or.inr tp_gd_2)).symm
          refine tp_span1 hm (Or.inr rfl) h hd (fun _ => he) tp_gd_2 (fun _ _ _ => tp_earl3 hm h hd he hX (fun _ _ _ => tp_tight3 hm h hd he hX (fun _ _ _ => tp_slot03 hm h hd he hX hY (fun _ _ _ _ h6 => tp_slot13 h6 (tp_add3 (d := 8) (by omega) (by omega) ?_)))))
          exact tp_fine (tp_n1 hd hd8) (tp_n8 hd8) (tp_fine (tp_n1 he he8) (tp_n8 he8) (br_f (by decide) (br_f (by decide) (br_f hx (br_f (by decide) (br_f (by decide) (br_t rfl (br_t rfl (br_f (by decide) (br_t rfl (br_t rfl (br_t (by decide) (br_t rfl (br_f (by decide) (br_t rfl (br_t rfl rfl))))))))))))))))
end
section
theorem tp_cell {post : Int32 → Prop} {L : Nat} {xs : Nat → Int32} (i : Nat) (hi : i < 3) (hL : L ≤ 3) (H : ∀ r : Int32, post r) : wpL_cellAt post L xs () (nI i) :=
  pk_le L i (fun _ => H 0) (fun z => ⟨pk_in i L z, H _⟩)
theorem i_vc (xs : Nat → Int32) (L : Nat) (hL : L ≤ 3) : wpL_law (fun r => r = 1) L xs := by
  unfold wpL_law
  exact tp_cell 0 (by omega) hL (fun r1 => tp_cell 1 (by omega) hL (fun r2 => tp_cell 2 (by omega) hL (fun r3 => ⟨28, 448, by omega, by omega, tp_lawOf r1 r2 r3⟩)))
end
