section
/-- an array's picture: its seven places -/
def tp_A (a : Nat → Int32) (k : Nat → Nat) : Prop := ∀ j, j < 7 → a j = nI (k j)
/-- a picture with one place written -/
def tp_u (k : Nat → Nat) (i v : Nat) : Nat → Nat := fun j => if j = i then v else k j
theorem tp_us {k : Nat → Nat} {i v : Nat} : tp_u k i v i = v := if_pos rfl
theorem tp_un {k : Nat → Nat} {i v j : Nat} (h : j ≠ i) : tp_u k i v j = k j := if_neg h
theorem tp_Au {a : Nat → Int32} {k : Nat → Nat} {i v : Nat} {x : Int32} (h : tp_A a k) (hx : x = nI v) : tp_A (upd a i x) (tp_u k i v) := by
  intro j hj
  by_cases e : j = i
  · rw [e, pk_us, tp_us, hx]
  · rw [pk_un e, tp_un e]
    exact h j hj
theorem tp_Ae {a : Nat → Int32} {k k' : Nat → Nat} (h : tp_A a k) (e : ∀ j, j < 7 → k j = k' j) : tp_A a k' := fun j hj => by rw [h j hj, e j hj]
theorem tp_fill {f s : Nat → Int32} {i k : Nat} {x : Int32} (hk : k = i) (h : ∀ j, j < i → s j = f j) (hx : x = f i) : ∀ j, j < i + 1 → upd s k x j = f j := by
  intro j hj
  rw [hk]
  by_cases e : j = i
  · rw [e, pk_us, hx]
  · rw [pk_un e]
    exact h j (by omega)
/-- the links: tasks 0 .. l - 1 go before task 2 -/
def tp_c (l j : Nat) : Nat := if j < l then 4 else 0
/-- a mask without one bit -/
def tp_cl (w i : Nat) : Nat := w &&& (15 ^^^ 2 ^ i)
/-- 1 for true -/
def tp_bI (b : Bool) : Int32 := if b = true then 1 else 0
/-- a number worked out before it is used -/
def tp_fo {α : Type} (x : Nat) (f : Nat → α) : α := match x with
  | 0 => f 0
  | n + 1 => f (n + 1)
theorem tp_fo_eq {α : Type} (x : Nat) (f : Nat → α) : tp_fo x f = f x := by
  cases x <;> rfl
theorem tp_cll {n : Nat} : nI n = Int32.ofNat n := rfl
theorem tp_n8 : ∀ k, k < 128 → (nI k).toInt8.toInt32 = nI k := by decide +kernel
theorem tp_v8 {k : Nat} (h : k < 128) : vp_nar .byte (nI k) = nI k := by rw [vp_nar_byte]; exact tp_n8 k h
theorem tp_bit : ∀ w, w < 16 → ∀ i, i < 7 → (((nI w >>> (nI i &&& 31)) &&& 1) = 0 ↔ w.testBit i = false) := by decide +kernel
theorem tp_clI : ∀ w, w < 16 → ∀ i, i < 7 → nI w &&& (((1 : Int32) <<< (nI i &&& 31)) ^^^ (-1)) = nI (tp_cl w i) := by decide +kernel
theorem tp_clt0 : ∀ w, w < 16 → ∀ i, i < 4 → w.testBit i = true → tp_cl w i < w ∧ (tp_cl w i).testBit i = false := by decide +kernel
theorem tp_clt1 : ∀ w, w < 16 → ∀ i, i < 4 → ∀ j, j < 4 → j = i ∨ (tp_cl w i).testBit j = w.testBit j := by decide +kernel
theorem tp_clt (w : Nat) (hw : w < 16) (i : Nat) (hi : i < 4) (h : w.testBit i = true) : tp_cl w i < w ∧ (tp_cl w i).testBit i = false ∧ ∀ j, j < 4 → j ≠ i → (tp_cl w i).testBit j = w.testBit j :=
  ⟨(tp_clt0 w hw i hi h).1, (tp_clt0 w hw i hi h).2, fun j hj e => (tp_clt1 w hw i hi j hj).resolve_left e⟩
theorem tp_cle (w i : Nat) : tp_cl w i ≤ w := Nat.and_le_left
theorem tp_inn {w n j : Nat} (hw : w < 2 ^ n) (h : w.testBit j = true) : j < n := by
  rcases Nat.lt_or_ge j n with z | z
  · exact z
  · have := Nat.testBit_lt_two_pow (Nat.lt_of_lt_of_le hw (Nat.pow_le_pow_right (by omega) z))
    rw [this] at h
    exact absurd h (by decide)
theorem tp_p16 {n : Nat} (hn : n ≤ 4) : 2 ^ n ≤ 16 := Nat.pow_le_pow_right (n := 2) (by omega) hn
theorem tp_nt {b : Bool} (h : ¬ b = false) : b = true := by cases b <;> simp_all
/-- an if over a bit of a mask -/
theorem tp_ifb {w i : Nat} {x y : Int32} {A B : Prop} (hw : w < 16) (hi : i < 7) (f : w.testBit i = false → A) (g : w.testBit i = true → B) (hx : x = nI w := by rfl) (hy : y = nI i := by rfl) : (((x >>> (y &&& 31)) &&& 1) = 0 → A) ∧ (¬ ((x >>> (y &&& 31)) &&& 1) = 0 → B) := by
  rw [hx, hy]
  exact ek_if (tp_bit w hw i hi) f (fun h => g (tp_nt h))
theorem tp_cb : ∀ l, l < 3 → ∀ i, i < 7 → ∀ j, j < 7 → (((nI (tp_c l i) >>> (nI j &&& 31)) &&& 1) = 0 ↔ ¬ (i < l ∧ j = 2)) := by decide +kernel
theorem tp_co : ∀ l, l < 3 → ∀ i, i < 7 → ∀ k, k < 7 → (((nI (tp_c l i) >>> (nI k &&& 31)) &&& 1) = 0 ∨ (nI (tp_c l i) ||| nI (tp_c l k)).toInt8.toInt32 = nI (tp_c l i)) := by decide +kernel
theorem tp_cw : ∀ l, l < 3 → ∀ i, i < 7 → ∀ w, w < 16 → ((nI (tp_c l i) &&& nI w) = 0 ↔ (i < l → w.testBit 2 = false)) := by decide +kernel
theorem tp_c16 (l j : Nat) : tp_c l j < 16 := by unfold tp_c; split <;> omega
theorem tp_pb : ∀ n, n < 5 → ∀ i, i < 7 → (((nI (2 ^ n - 1) >>> (nI i &&& 31)) &&& 1) = 0 ↔ n ≤ i) := by decide +kernel
theorem tp_pu : ∀ n, n < 4 → nI (2 ^ n - 1) ||| ((1 : Int32) <<< (nI n &&& 31)) = nI (2 ^ (n + 1) - 1) := by decide +kernel
theorem tp_pd : ∀ n, n < 4 → nI (2 ^ (n + 1) - 1) &&& (((1 : Int32) <<< (nI n &&& 31)) ^^^ (-1)) = nI (2 ^ n - 1) := by decide +kernel
theorem tp_nb (b : Bool) : narrow .boolean (.int (tp_bI b)) = .int (tp_bI b) := by cases b <;> rfl
end
section
section
variable {m c p fk sk : Int32} {a1 a2 a3 a4 a5 a6 a7 : Nat → Int32}
/-- every deadline, none greater than L -/
def tp_mn (L : Nat) (du : Nat → Nat) : Nat → Nat := fun j => if L ≤ du j then L else du j
theorem tp_ask {post : St2 → Prop} {du : Nat → Nat} {L : Nat} (hL : L ≤ 8) (hd : ∀ j, j < 7 → du j ≤ 8) (h1 : tp_A a1 du)
    (H : ∀ a, tp_A a (tp_mn L du) → post (m, c, p, fk, sk, a1, a2, a3, a, a5, a6, a7)) :
    wpX_askOwn post (m, c, p, fk, sk, a1, a2, a3, a4, a5, a6, a7) (nI L) := by
  refine pk_loop (fun n i s => wX_askOwn_2 post (nI L) m c p fk sk n (nI i) a1 a2 a3 s a5 a6 a7) (fun i s => ∀ j, j < i → s j = nI (tp_mn L du j)) 7 0 a4 (by omega) (fun j hj => absurd hj (by omega)) ?_ ?_
  · intro n s h
    exact pk_le 7 7 (fun _ => H s h) (fun z => absurd z (by omega))
  · intro n i s hi h hw
    have hdi := hd i hi
    have e1 : a1 (nI i).toNatClampNeg = nI (du i) := by rw [nI_clamp (by omega)]; exact h1 i hi
    have F : ∀ x : Int32, x = nI (tp_mn L du i) → ∀ j, j < i + 1 → upd s (nI i).toNatClampNeg x j = nI (tp_mn L du j) := fun x hx => tp_fill (f := fun j => nI (tp_mn L du j)) (nI_clamp (by omega)) h hx
    refine pk_le 7 i (fun z => absurd z (by omega)) (fun _ => ⟨pk_in i 7 hi, pk_le L (du i) (fun z => ⟨pk_in i 7 hi, nm_e (nm_r (nI_1 i) (hw _ (F _ ?_)))⟩) (fun z => ⟨pk_in i 7 hi, pk_in i 7 hi, nm_e (nm_r (nI_1 i) (hw _ (F _ ?_)))⟩) rfl e1⟩)
    · rw [tp_n8 L (by omega)]
      show nI L = nI (if L ≤ du i then L else du i)
      rw [if_pos z]
    · rw [e1, tp_v8 (by omega)]
      show nI (du i) = nI (if L ≤ du i then L else du i)
      rw [if_neg (by omega)]
theorem tp_ask8 {post : St2 → Prop} {du : Nat → Nat} (hd : ∀ j, j < 7 → du j ≤ 8) (h1 : tp_A a1 du)
    (H : ∀ a, tp_A a du → post (m, c, p, fk, sk, a1, a2, a3, a, a5, a6, a7)) :
    wpX_askOwn post (m, c, p, fk, sk, a1, a2, a3, a4, a5, a6, a7) 8 :=
  tp_ask (L := 8) (by omega) hd h1 (fun a ha => H a (tp_Ae ha (fun j hj => by
    have := hd j hj
    show (if 8 ≤ du j then 8 else du j) = du j
    split <;> omega)))
theorem tp_uk {k : Nat → Nat} {i : Nat} (j : Nat) : tp_u k i (k i) j = k j := by
  unfold tp_u
  split
  · rename_i h
    rw [h]
  · rfl
theorem tp_cl36 {post : St2 → Prop} {J : Int32 → (Nat → Int32) → (Nat → Int32) → (Nat → Int32) → (Nat → Int32) → (Nat → Int32) → (Nat → Int32) → (Nat → Int32) → Prop} {l k : Nat} (hl : l < 3) (hk : k < 7) (h3 : tp_A a3 (tp_c l))
    (H : ∀ a, tp_A a (tp_c l) → J (nI (k + 1)) a1 a2 a a4 a5 a6 a7) :
    ∃ n, wX_close_36 post J (nI k) m c p fk sk n 0 a1 a2 a3 a4 a5 a6 a7 := by
  refine pk_loop (fun n i s => wX_close_36 post J (nI k) m c p fk sk n (nI i) a1 a2 s a4 a5 a6 a7) (fun _ s => tp_A s (tp_c l)) 7 0 a3 (by omega) h3 ?_ ?_
  · intro n s h
    exact pk_le 7 7 (fun _ => nm_r (nI_1 k) (H s h)) (fun z => absurd z (by omega))
  · intro n i s hi h hw
    have ei : s (nI i).toNatClampNeg = nI (tp_c l i) := by rw [nI_clamp (by omega)]; exact h i hi
    have ek : s (nI k).toNatClampNeg = nI (tp_c l k) := by rw [nI_clamp (by omega)]; exact h k hk
    refine pk_le 7 i (fun z => absurd z (by omega)) (fun _ => ⟨pk_in i 7 hi, br_c (fun _ => nm_r (nI_1 i) (hw s h)) (fun z => ⟨pk_in i 7 hi, pk_in k 7 hk, pk_in i 7 hi, nm_e (nm_r (nI_1 i) (hw _ ?_))⟩)⟩)
    show tp_A (upd s (nI i).toNatClampNeg (((s (nI i).toNatClampNeg) ||| (s (nI k).toNatClampNeg)).toInt8.toInt32)) (tp_c l)
    rw [ei] at z
    rw [ei, ek, nI_clamp (show i < 2 ^ 31 by omega)]
    exact tp_Ae (tp_Au h ((tp_co l hl i hi k hk).resolve_left z)) (fun j _ => tp_uk j)
theorem tp_close {post : St2 → Prop} {l : Nat} (hl : l < 3) (h2 : tp_A a2 (tp_c l))
    (H : ∀ a, tp_A a (tp_c l) → post (m, c, p, fk, sk, a1, a2, a, a4, a5, a6, a7)) :
    wpX_close post (m, c, p, fk, sk, a1, a2, a3, a4, a5, a6, a7) := by
  refine pk_loop (fun n i s => wX_close_2 post m c p fk sk n (nI i) a1 a2 s a4 a5 a6 a7) (fun i s => ∀ j, j < i → s j = nI (tp_c l j)) 7 0 a3 (by omega) (fun j hj => absurd hj (by omega)) ?_ ?_
  · intro n s h
    refine pk_le 7 7 (fun _ => ?_) (fun z => absurd z (by omega))
    refine pk_loop (fun n i s => wX_close_28 post m c p fk sk n (nI i) a1 a2 s a4 a5 a6 a7) (fun _ s => tp_A s (tp_c l)) 7 0 s (by omega) h ?_ ?_
    · intro n s h
      exact pk_le 7 7 (fun _ => H s h) (fun z => absurd z (by omega))
    · intro n i s hi h hw
      exact pk_le 7 i (fun z => absurd z (by omega)) (fun _ => tp_cl36 hl hi h (fun a ha => hw a ha))
  · intro n i s hi h hw
    have ei : a2 (nI i).toNatClampNeg = nI (tp_c l i) := by rw [nI_clamp (by omega)]; exact h2 i hi
    refine pk_le 7 i (fun z => absurd z (by omega)) (fun _ => ⟨pk_in i 7 hi, pk_in i 7 hi, nm_e (nm_r (nI_1 i) (hw _ (tp_fill (f := fun j => nI (tp_c l j)) (nI_clamp (by omega)) h ?_)))⟩)
    rw [ei, tp_v8 (by have := tp_c16 l i; omega)]
theorem tp_cl36_2 {post : St2 → Prop} {J : Int32 → (Nat → Int32) → (Nat → Int32) → (Nat → Int32) → (Nat → Int32) → (Nat → Int32) → (Nat → Int32) → (Nat → Int32) → Prop} {l k : Nat} (hl : l < 3) (hk : k < 7) (h3 : tp_A a3 (tp_c l))
    (H : ∀ a, tp_A a (tp_c l) → J (nI (k + 1)) a1 a2 a a4 a5 a6 a7) :
    ∃ n, wX_close_2_36 post J (nI k) m c p fk sk n 0 a1 a2 a3 a4 a5 a6 a7 := by
  refine pk_loop (fun n i s => wX_close_2_36 post J (nI k) m c p fk sk n (nI i) a1 a2 s a4 a5 a6 a7) (fun _ s => tp_A s (tp_c l)) 7 0 a3 (by omega) h3 ?_ ?_
  · intro n s h
    exact pk_le 7 7 (fun _ => nm_r (nI_1 k) (H s h)) (fun z => absurd z (by omega))
  · intro n i s hi h hw
    have ei : s (nI i).toNatClampNeg = nI (tp_c l i) := by rw [nI_clamp (by omega)]; exact h i hi
    have ek : s (nI k).toNatClampNeg = nI (tp_c l k) := by rw [nI_clamp (by omega)]; exact h k hk
    refine pk_le 7 i (fun z => absurd z (by omega)) (fun _ => ⟨pk_in i 7 hi, br_c (fun _ => nm_r (nI_1 i) (hw s h)) (fun z => ⟨pk_in i 7 hi, pk_in k 7 hk, pk_in i 7 hi, nm_e (nm_r (nI_1 i) (hw _ ?_))⟩)⟩)
    show tp_A (upd s (nI i).toNatClampNeg (((s (nI i).toNatClampNeg) ||| (s (nI k).toNatClampNeg)).toInt8.toInt32)) (tp_c l)
    rw [ei] at z
    rw [ei, ek, nI_clamp (show i < 2 ^ 31 by omega)]
    exact tp_Ae (tp_Au h ((tp_co l hl i hi k hk).resolve_left z)) (fun j _ => tp_uk j)
theorem tp_close_2 {post : St2 → Prop} {l : Nat} (hl : l < 3) (h2 : tp_A a2 (tp_c l))
    (H : ∀ a, tp_A a (tp_c l) → post (m, c, p, fk, sk, a1, a2, a, a4, a5, a6, a7)) :
    wpX_close_2 post (m, c, p, fk, sk, a1, a2, a3, a4, a5, a6, a7) := by
  refine pk_loop (fun n i s => wX_close_2_2 post m c p fk sk n (nI i) a1 a2 s a4 a5 a6 a7) (fun i s => ∀ j, j < i → s j = nI (tp_c l j)) 7 0 a3 (by omega) (fun j hj => absurd hj (by omega)) ?_ ?_
  · intro n s h
    refine pk_le 7 7 (fun _ => ?_) (fun z => absurd z (by omega))
    refine pk_loop (fun n i s => wX_close_2_28 post m c p fk sk n (nI i) a1 a2 s a4 a5 a6 a7) (fun _ s => tp_A s (tp_c l)) 7 0 s (by omega) h ?_ ?_
    · intro n s h
      exact pk_le 7 7 (fun _ => H s h) (fun z => absurd z (by omega))
    · intro n i s hi h hw
      exact pk_le 7 i (fun z => absurd z (by omega)) (fun _ => tp_cl36_2 hl hi h (fun a ha => hw a ha))
  · intro n i s hi h hw
    have ei : a2 (nI i).toNatClampNeg = nI (tp_c l i) := by rw [nI_clamp (by omega)]; exact h2 i hi
    refine pk_le 7 i (fun z => absurd z (by omega)) (fun _ => ⟨pk_in i 7 hi, pk_in i 7 hi, nm_e (nm_r (nI_1 i) (hw _ (tp_fill (f := fun j => nI (tp_c l j)) (nI_clamp (by omega)) h ?_)))⟩)
    rw [ei, tp_v8 (by have := tp_c16 l i; omega)]
theorem tp_cl36_3 {post : St2 → Prop} {J : Int32 → (Nat → Int32) → (Nat → Int32) → (Nat → Int32) → (Nat → Int32) → (Nat → Int32) → (Nat → Int32) → (Nat → Int32) → Prop} {l k : Nat} (hl : l < 3) (hk : k < 7) (h3 : tp_A a3 (tp_c l))
    (H : ∀ a, tp_A a (tp_c l) → J (nI (k + 1)) a1 a2 a a4 a5 a6 a7) :
    ∃ n, wX_close_3_36 post J (nI k) m c p fk sk n 0 a1 a2 a3 a4 a5 a6 a7 := by
  refine pk_loop (fun n i s => wX_close_3_36 post J (nI k) m c p fk sk n (nI i) a1 a2 s a4 a5 a6 a7) (fun _ s => tp_A s (tp_c l)) 7 0 a3 (by omega) h3 ?_ ?_
  · intro n s h
    exact pk_le 7 7 (fun _ => nm_r (nI_1 k) (H s h)) (fun z => absurd z (by omega))
  · intro n i s hi h hw
    have ei : s (nI i).toNatClampNeg = nI (tp_c l i) := by rw [nI_clamp (by omega)]; exact h i hi
    have ek : s (nI k).toNatClampNeg = nI (tp_c l k) := by rw [nI_clamp (by omega)]; exact h k hk
    refine pk_le 7 i (fun z => absurd z (by omega)) (fun _ => ⟨pk_in i 7 hi, br_c (fun _ => nm_r (nI_1 i) (hw s h)) (fun z => ⟨pk_in i 7 hi, pk_in k 7 hk, pk_in i 7 hi, nm_e (nm_r (nI_1 i) (hw _ ?_))⟩)⟩)
    show tp_A (upd s (nI i).toNatClampNeg (((s (nI i).toNatClampNeg) ||| (s (nI k).toNatClampNeg)).toInt8.toInt32)) (tp_c l)
    rw [ei] at z
    rw [ei, ek, nI_clamp (show i < 2 ^ 31 by omega)]
    exact tp_Ae (tp_Au h ((tp_co l hl i hi k hk).resolve_left z)) (fun j _ => tp_uk j)
theorem tp_close_3 {post : St2 → Prop} {l : Nat} (hl : l < 3) (h2 : tp_A a2 (tp_c l))
    (H : ∀ a, tp_A a (tp_c l) → post (m, c, p, fk, sk, a1, a2, a, a4, a5, a6, a7)) :
    wpX_close_3 post (m, c, p, fk, sk, a1, a2, a3, a4, a5, a6, a7) := by
  refine pk_loop (fun n i s => wX_close_3_2 post m c p fk sk n (nI i) a1 a2 s a4 a5 a6 a7) (fun i s => ∀ j, j < i → s j = nI (tp_c l j)) 7 0 a3 (by omega) (fun j hj => absurd hj (by omega)) ?_ ?_
  · intro n s h
    refine pk_le 7 7 (fun _ => ?_) (fun z => absurd z (by omega))
    refine pk_loop (fun n i s => wX_close_3_28 post m c p fk sk n (nI i) a1 a2 s a4 a5 a6 a7) (fun _ s => tp_A s (tp_c l)) 7 0 s (by omega) h ?_ ?_
    · intro n s h
      exact pk_le 7 7 (fun _ => H s h) (fun z => absurd z (by omega))
    · intro n i s hi h hw
      exact pk_le 7 i (fun z => absurd z (by omega)) (fun _ => tp_cl36_3 hl hi h (fun a ha => hw a ha))
  · intro n i s hi h hw
    have ei : a2 (nI i).toNatClampNeg = nI (tp_c l i) := by rw [nI_clamp (by omega)]; exact h2 i hi
    refine pk_le 7 i (fun z => absurd z (by omega)) (fun _ => ⟨pk_in i 7 hi, pk_in i 7 hi, nm_e (nm_r (nI_1 i) (hw _ (tp_fill (f := fun j => nI (tp_c l j)) (nI_clamp (by omega)) h ?_)))⟩)
    rw [ei, tp_v8 (by have := tp_c16 l i; omega)]
end
end
section
section
variable {m c p fk sk : Int32} {a1 a2 a3 a4 a5 a6 a7 : Nat → Int32}
theorem tp_r0 : ∀ r, r < 16 → (∀ j, j < 7 → r.testBit j = false) → r = 0 := by decide +kernel
theorem tp_wx (l : Nat) (hl : l < 3) (w : Nat) (h16 : w < 16) (h0 : 0 < w) : ¬ ∀ j, j < 7 → ¬ (w.testBit j = true ∧ (j < l → w.testBit 2 = false)) := by
  intro h
  cases h2 : w.testBit 2 with
  | true => exact h 2 (by omega) ⟨h2, fun z => absurd z (by omega)⟩
  | false =>
    have : w = 0 := tp_r0 w h16 (fun j hj => by
      cases hj2 : w.testBit j with
      | false => rfl
      | true => exact absurd ⟨hj2, fun _ => h2⟩ (h j hj))
    omega
theorem tp_wf {post : Int32 → Prop} {l n w : Nat} (hl : l < 3) (hn : n ≤ 4) (hw : w < 2 ^ n) (h0 : w ≠ 0) (h3 : tp_A a3 (tp_c l))
    (H : ∀ i, i < n → w.testBit i = true → (i < l → w.testBit 2 = false) → post (nI i)) :
    wpX_withoutFollowersIn post (m, c, p, fk, sk, a1, a2, a3, a4, a5, a6, a7) (nI w) := by
  have h16 : w < 16 := Nat.lt_of_lt_of_le hw (tp_p16 hn)
  refine pk_loop (σ := Unit) (fun q i _ => wX_withoutFollowersIn_2 post (nI w) m c p fk sk a1 a2 a3 a4 a5 a6 a7 q (nI i)) (fun i _ => ∀ j, j < i → ¬ (w.testBit j = true ∧ (j < l → w.testBit 2 = false))) 7 0 () (by omega) (fun j hj => absurd hj (by omega)) ?_ ?_
  · intro q _ h
    exact absurd h (tp_wx l hl w h16 (by omega))
  · intro q i _ hi h hw'
    have ei : a3 (nI i).toNatClampNeg = nI (tp_c l i) := by rw [nI_clamp (by omega)]; exact h3 i hi
    have F : ¬ (w.testBit i = true ∧ (i < l → w.testBit 2 = false)) → ∀ j, j < i + 1 → ¬ (w.testBit j = true ∧ (j < l → w.testBit 2 = false)) := fun g => lt_s (p := fun j => ¬ (w.testBit j = true ∧ (j < l → w.testBit 2 = false))) h g
    refine pk_le 7 i (fun z => absurd z (by omega)) (fun _ => tp_ifb h16 hi (fun z => nm_r (nI_1 i) (hw' () (F ?_))) (fun z => ⟨pk_in i 7 hi, ek_if (by rw [ei]; exact tp_cw l hl i hi w h16) (fun g => H i (tp_inn hw z) z g) (fun g => nm_r (nI_1 i) (hw' () (F (fun t => g t.2))))⟩))
    rw [z]
    exact fun t => absurd t.1 (by decide)
theorem tp_fb {post : Int32 → Prop} {l i d q : Nat} (hl : l < 3) (hi : i < 7) (hd : d ≤ 8) (hq8 : q ≤ 8) (h3 : tp_A a3 (tp_c l)) (hq : i < l → a5 2 = nI q)
    (H : post (nI (if i < l ∧ q ≤ d then 1 else 0))) :
    wpX_followersBy post (m, c, p, fk, sk, a1, a2, a3, a4, a5, a6, a7) (nI i) (nI d) := by
  have ei : a3 (nI i).toNatClampNeg = nI (tp_c l i) := by rw [nI_clamp (by omega)]; exact h3 i hi
  refine pk_loop (fun n j s => wX_followersBy_5 post (nI i) (nI d) m c p fk sk a1 a2 a3 a4 a5 a6 a7 n (nI s) (nI j)) (fun j s => s = (if 2 < j ∧ i < l ∧ q ≤ d then 1 else 0)) 7 0 0 (by omega) (by simp) ?_ ?_
  · intro n s h
    have h' : s = (if 2 < 7 ∧ i < l ∧ q ≤ d then 1 else 0) := h
    have e : s = (if i < l ∧ q ≤ d then 1 else 0) := by
      rw [h']
      by_cases g : i < l ∧ q ≤ d
      · rw [if_pos g, if_pos ⟨by omega, g⟩]
      · rw [if_neg g, if_neg (fun t => g t.2)]
    exact pk_le 7 7 (fun _ => by rw [← e] at H; exact H) (fun z => absurd z (by omega))
  · intro n j s hj h hw
    have h' : s = (if 2 < j ∧ i < l ∧ q ≤ d then 1 else 0) := h
    have hw' : ∀ s', s' = (if 2 < j + 1 ∧ i < l ∧ q ≤ d then 1 else 0) → wX_followersBy_5 post (nI i) (nI d) m c p fk sk a1 a2 a3 a4 a5 a6 a7 n (nI s') (nI (j + 1)) := hw
    refine pk_le 7 j (fun z => absurd z (by omega)) (fun _ => ⟨pk_in i 7 hi, ek_if (d := ¬ (i < l ∧ j = 2)) (by rw [ei]; exact tp_cb l hl i hi j hj) (fun z => nm_r (nI_1 j) (hw' s ?_)) (fun z => ⟨pk_in j 7 hj, ?_⟩)⟩)
    · rw [h']
      by_cases g : i < l ∧ q ≤ d
      · by_cases g2 : 2 < j
        · rw [if_pos ⟨g2, g⟩, if_pos ⟨by omega, g⟩]
        · rw [if_neg (fun t => g2 t.1), if_neg (fun t => z ⟨g.1, by omega⟩)]
      · rw [if_neg (fun t => g t.2), if_neg (fun t => g t.2)]
    · have hz : i < l ∧ j = 2 := Decidable.not_not.mp z
      obtain ⟨hil, hj2⟩ := hz
      have e5 : a5 (nI j).toNatClampNeg = nI q := by rw [nI_clamp (by omega), hj2]; exact hq hil
      have s0 : s = 0 := by rw [h', if_neg (fun t => absurd t.1 (by omega))]
      refine pk_lt d q (fun g => nm_r (nI_1 j) (hw' s ?_)) (fun g => nm_r (nI_1 s) (nm_r (nI_1 j) (hw' (s + 1) ?_))) rfl e5
      · rw [s0, if_neg (fun t => absurd t.2.2 (by omega))]
      · rw [s0, if_pos ⟨by omega, hil, g⟩]
theorem tp_draw {post : St2 → Prop} {M l i q k0 : Nat} (hl : l < 3) (hi : i < 7) (hk : k0 ≤ 8) (hq8 : q ≤ 8) (h3 : tp_A a3 (tp_c l)) (h4 : a4 i = nI k0) (hq : i < l → a5 2 = nI q ∧ 1 ≤ q)
    (H : post (nI M, c, p, fk, sk, a1, a2, a3, a4, upd a5 i (nI (if i < l then min k0 (q - 1) else k0)), a6, a7)) :
    wpX_draw post (nI M, c, p, fk, sk, a1, a2, a3, a4, a5, a6, a7) (nI i) := by
  refine ⟨pk_in i 7 hi, nm_r (e' := nI k0) (by rw [nI_clamp (by omega)]; exact h4) ?_⟩
  refine pk_loop (fun n d s => wX_draw_9 post (nI i) (nI M) c p fk sk a1 a2 a3 a4 a5 a6 a7 n (nI s) (nI d)) (fun d s => 1 ≤ d ∧ s = (if i < l ∧ q < d then min k0 (q - 1) else k0)) 9 1 k0 (by omega) ⟨by omega, ?_⟩ ?_ ?_
  · rw [if_neg (fun t => absurd (hq t.1).2 (by omega))]
  · intro n s h
    have h' : s = (if i < l ∧ q < 9 then min k0 (q - 1) else k0) := h.2
    have e : s = (if i < l then min k0 (q - 1) else k0) := by
      rw [h']
      by_cases g : i < l
      · rw [if_pos g, if_pos ⟨g, by omega⟩]
      · rw [if_neg g, if_neg (fun t => g t.1)]
    have s8 : s ≤ 8 := by rw [e]; split <;> omega
    refine pk_lt 8 9 (fun _ => ⟨pk_in i 7 hi, nm_r (e' := upd a5 i (nI s)) (by rw [nI_clamp (by omega), tp_n8 s (by omega)]) ?_⟩) (fun z => absurd z (by omega))
    rw [e]
    exact H
  · intro n d s hd h hw
    obtain ⟨d1, h'⟩ : 1 ≤ d ∧ s = (if i < l ∧ q < d then min k0 (q - 1) else k0) := h
    have hw' : ∀ s', s' = (if i < l ∧ q < d + 1 then min k0 (q - 1) else k0) → wX_draw_9 post (nI i) (nI M) c p fk sk a1 a2 a3 a4 a5 a6 a7 n (nI s') (nI (d + 1)) := fun s' e => hw s' ⟨by omega, e⟩
    have s8 : s ≤ 8 := by rw [h']; split <;> omega
    refine pk_lt 8 d (fun z => absurd z (by omega)) (fun _ => tp_fb hl hi (by omega) hq8 h3 (fun z => (hq z).1) ?_)
    by_cases g : i < l ∧ q ≤ d
    · rw [if_pos g]
      have q1 := (hq g.1).2
      have K : ∀ z : Int32, z = nI 1 → wX_draw_42 post (wX_draw_9 post (nI i) (nI M) c p fk sk a1 a2 a3 a4 a5 a6 a7 n) (nI i) (nI s) (nI d) (nI 1) z (nI M) c p fk sk a1 a2 a3 a4 a5 a6 a7 := by
        intro z ez
        rw [ez]
        refine pk_le 1 0 (fun z => absurd z (by omega)) (fun _ => pk_le s (d - 1) (fun g2 => nm_r (nI_1 d) (hw' s ?_)) (fun g2 => nm_r (pk_sub d1) (nm_r (nI_1 d) (hw' (d - 1) ?_))) rfl (pk_sub d1))
        · rw [if_pos ⟨g.1, by omega⟩]
          by_cases g3 : q < d
          · rw [if_pos ⟨g.1, g3⟩] at h'
            exact h'
          · rw [if_neg (fun t => g3 t.2)] at h'
            omega
        · rw [if_pos ⟨g.1, by omega⟩]
          by_cases g3 : q < d
          · rw [if_pos ⟨g.1, g3⟩] at h'
            omega
          · rw [if_neg (fun t => g3 t.2)] at h'
            omega
      exact br_c (fun _ => K _ rfl) (fun _ => K _ (by decide))
    · rw [if_neg g]
      have K : ∀ z : Int32, wX_draw_42 post (wX_draw_9 post (nI i) (nI M) c p fk sk a1 a2 a3 a4 a5 a6 a7 n) (nI i) (nI s) (nI d) (nI 0) z (nI M) c p fk sk a1 a2 a3 a4 a5 a6 a7 := by
        intro z
        refine pk_le 0 0 (fun _ => nm_r (nI_1 d) (hw' s ?_)) (fun z => absurd z (by omega))
        rw [if_neg (fun t => g ⟨t.1, by omega⟩)]
        rw [if_neg (fun t => g ⟨t.1, by omega⟩)] at h'
        exact h'
      exact br_c (fun _ => K _) (fun _ => K _)
theorem tp_draw_2 {post : St2 → Prop} {M l i q k0 : Nat} (hl : l < 3) (hi : i < 7) (hk : k0 ≤ 8) (hq8 : q ≤ 8) (h3 : tp_A a3 (tp_c l)) (h4 : a4 i = nI k0) (hq : i < l → a5 2 = nI q ∧ 1 ≤ q)
    (H : post (nI M, c, p, fk, sk, a1, a2, a3, a4, upd a5 i (nI (if i < l then min k0 (q - 1) else k0)), a6, a7)) :
    wpX_draw_2 post (nI M, c, p, fk, sk, a1, a2, a3, a4, a5, a6, a7) (nI i) := by
  refine ⟨pk_in i 7 hi, nm_r (e' := nI k0) (by rw [nI_clamp (by omega)]; exact h4) ?_⟩
  refine pk_loop (fun n d s => wX_draw_2_9 post (nI i) (nI M) c p fk sk a1 a2 a3 a4 a5 a6 a7 n (nI s) (nI d)) (fun d s => 1 ≤ d ∧ s = (if i < l ∧ q < d then min k0 (q - 1) else k0)) 9 1 k0 (by omega) ⟨by omega, ?_⟩ ?_ ?_
  · rw [if_neg (fun t => absurd (hq t.1).2 (by omega))]
  · intro n s h
    have h' : s = (if i < l ∧ q < 9 then min k0 (q - 1) else k0) := h.2
    have e : s = (if i < l then min k0 (q - 1) else k0) := by
      rw [h']
      by_cases g : i < l
      · rw [if_pos g, if_pos ⟨g, by omega⟩]
      · rw [if_neg g, if_neg (fun t => g t.1)]
    have s8 : s ≤ 8 := by rw [e]; split <;> omega
    refine pk_lt 8 9 (fun _ => ⟨pk_in i 7 hi, nm_r (e' := upd a5 i (nI s)) (by rw [nI_clamp (by omega), tp_n8 s (by omega)]) ?_⟩) (fun z => absurd z (by omega))
    rw [e]
    exact H
  · intro n d s hd h hw
    obtain ⟨d1, h'⟩ : 1 ≤ d ∧ s = (if i < l ∧ q < d then min k0 (q - 1) else k0) := h
    have hw' : ∀ s', s' = (if i < l ∧ q < d + 1 then min k0 (q - 1) else k0) → wX_draw_2_9 post (nI i) (nI M) c p fk sk a1 a2 a3 a4 a5 a6 a7 n (nI s') (nI (d + 1)) := fun s' e => hw s' ⟨by omega, e⟩
    have s8 : s ≤ 8 := by rw [h']; split <;> omega
    refine pk_lt 8 d (fun z => absurd z (by omega)) (fun _ => tp_fb hl hi (by omega) hq8 h3 (fun z => (hq z).1) ?_)
    by_cases g : i < l ∧ q ≤ d
    · rw [if_pos g]
      have q1 := (hq g.1).2
      have K : ∀ z : Int32, z = nI 1 → wX_draw_2_42 post (wX_draw_2_9 post (nI i) (nI M) c p fk sk a1 a2 a3 a4 a5 a6 a7 n) (nI i) (nI s) (nI d) (nI 1) z (nI M) c p fk sk a1 a2 a3 a4 a5 a6 a7 := by
        intro z ez
        rw [ez]
        refine pk_le 1 0 (fun z => absurd z (by omega)) (fun _ => pk_le s (d - 1) (fun g2 => nm_r (nI_1 d) (hw' s ?_)) (fun g2 => nm_r (pk_sub d1) (nm_r (nI_1 d) (hw' (d - 1) ?_))) rfl (pk_sub d1))
        · rw [if_pos ⟨g.1, by omega⟩]
          by_cases g3 : q < d
          · rw [if_pos ⟨g.1, g3⟩] at h'
            exact h'
          · rw [if_neg (fun t => g3 t.2)] at h'
            omega
        · rw [if_pos ⟨g.1, by omega⟩]
          by_cases g3 : q < d
          · rw [if_pos ⟨g.1, g3⟩] at h'
            omega
          · rw [if_neg (fun t => g3 t.2)] at h'
            omega
      exact br_c (fun _ => K _ rfl) (fun _ => K _ (by decide))
    · rw [if_neg g]
      have K : ∀ z : Int32, wX_draw_2_42 post (wX_draw_2_9 post (nI i) (nI M) c p fk sk a1 a2 a3 a4 a5 a6 a7 n) (nI i) (nI s) (nI d) (nI 0) z (nI M) c p fk sk a1 a2 a3 a4 a5 a6 a7 := by
        intro z
        refine pk_le 0 0 (fun _ => nm_r (nI_1 d) (hw' s ?_)) (fun z => absurd z (by omega))
        rw [if_neg (fun t => g ⟨t.1, by omega⟩)]
        rw [if_neg (fun t => g ⟨t.1, by omega⟩)] at h'
        exact h'
      exact br_c (fun _ => K _) (fun _ => K _)
theorem tp_draw_3 {post : St2 → Prop} {M l i q k0 : Nat} (hl : l < 3) (hi : i < 7) (hk : k0 ≤ 8) (hq8 : q ≤ 8) (h3 : tp_A a3 (tp_c l)) (h4 : a4 i = nI k0) (hq : i < l → a5 2 = nI q ∧ 1 ≤ q)
    (H : post (nI M, c, p, fk, sk, a1, a2, a3, a4, upd a5 i (nI (if i < l then min k0 (q - 1) else k0)), a6, a7)) :
    wpX_draw_3 post (nI M, c, p, fk, sk, a1, a2, a3, a4, a5, a6, a7) (nI i) := by
  refine ⟨pk_in i 7 hi, nm_r (e' := nI k0) (by rw [nI_clamp (by omega)]; exact h4) ?_⟩
  refine pk_loop (fun n d s => wX_draw_3_9 post (nI i) (nI M) c p fk sk a1 a2 a3 a4 a5 a6 a7 n (nI s) (nI d)) (fun d s => 1 ≤ d ∧ s = (if i < l ∧ q < d then min k0 (q - 1) else k0)) 9 1 k0 (by omega) ⟨by omega, ?_⟩ ?_ ?_
  · rw [if_neg (fun t => absurd (hq t.1).2 (by omega))]
  · intro n s h
    have h' : s = (if i < l ∧ q < 9 then min k0 (q - 1) else k0) := h.2
    have e : s = (if i < l then min k0 (q - 1) else k0) := by
      rw [h']
      by_cases g : i < l
      · rw [if_pos g, if_pos ⟨g, by omega⟩]
      · rw [if_neg g, if_neg (fun t => g t.1)]
    have s8 : s ≤ 8 := by rw [e]; split <;> omega
    refine pk_lt 8 9 (fun _ => ⟨pk_in i 7 hi, nm_r (e' := upd a5 i (nI s)) (by rw [nI_clamp (by omega), tp_n8 s (by omega)]) ?_⟩) (fun z => absurd z (by omega))
    rw [e]
    exact H
  · intro n d s hd h hw
    obtain ⟨d1, h'⟩ : 1 ≤ d ∧ s = (if i < l ∧ q < d then min k0 (q - 1) else k0) := h
    have hw' : ∀ s', s' = (if i < l ∧ q < d + 1 then min k0 (q - 1) else k0) → wX_draw_3_9 post (nI i) (nI M) c p fk sk a1 a2 a3 a4 a5 a6 a7 n (nI s') (nI (d + 1)) := fun s' e => hw s' ⟨by omega, e⟩
    have s8 : s ≤ 8 := by rw [h']; split <;> omega
    refine pk_lt 8 d (fun z => absurd z (by omega)) (fun _ => tp_fb hl hi (by omega) hq8 h3 (fun z => (hq z).1) ?_)
    by_cases g : i < l ∧ q ≤ d
    · rw [if_pos g]
      have q1 := (hq g.1).2
      have K : ∀ z : Int32, z = nI 1 → wX_draw_3_42 post (wX_draw_3_9 post (nI i) (nI M) c p fk sk a1 a2 a3 a4 a5 a6 a7 n) (nI i) (nI s) (nI d) (nI 1) z (nI M) c p fk sk a1 a2 a3 a4 a5 a6 a7 := by
        intro z ez
        rw [ez]
        refine pk_le 1 0 (fun z => absurd z (by omega)) (fun _ => pk_le s (d - 1) (fun g2 => nm_r (nI_1 d) (hw' s ?_)) (fun g2 => nm_r (pk_sub d1) (nm_r (nI_1 d) (hw' (d - 1) ?_))) rfl (pk_sub d1))
        · rw [if_pos ⟨g.1, by omega⟩]
          by_cases g3 : q < d
          · rw [if_pos ⟨g.1, g3⟩] at h'
            exact h'
          · rw [if_neg (fun t => g3 t.2)] at h'
            omega
        · rw [if_pos ⟨g.1, by omega⟩]
          by_cases g3 : q < d
          · rw [if_pos ⟨g.1, g3⟩] at h'
            omega
          · rw [if_neg (fun t => g3 t.2)] at h'
            omega
      exact br_c (fun _ => K _ rfl) (fun _ => K _ (by decide))
    · rw [if_neg g]
      have K : ∀ z : Int32, wX_draw_3_42 post (wX_draw_3_9 post (nI i) (nI M) c p fk sk a1 a2 a3 a4 a5 a6 a7 n) (nI i) (nI s) (nI d) (nI 0) z (nI M) c p fk sk a1 a2 a3 a4 a5 a6 a7 := by
        intro z
        refine pk_le 0 0 (fun _ => nm_r (nI_1 d) (hw' s ?_)) (fun z => absurd z (by omega))
        rw [if_neg (fun t => g ⟨t.1, by omega⟩)]
        rw [if_neg (fun t => g ⟨t.1, by omega⟩)] at h'
        exact h'
      exact br_c (fun _ => K _) (fun _ => K _)
end
end
section
section
variable {m c p fk sk : Int32} {a1 a2 a3 a4 a5 a6 a7 : Nat → Int32}
/-- what the first i waiting tasks hold back -/
def tp_h (l w : Nat) : Nat → Nat
  | 0 => 0
  | i + 1 => if w.testBit i = true then tp_h l w i ||| tp_c l i else tp_h l w i
/-- the ready tasks -/
def tp_rd (l w : Nat) : Nat := if (w.testBit 0 = true ∧ 0 < l) ∨ (w.testBit 1 = true ∧ 1 < l) then w &&& 11 else w
theorem tp_h16 : ∀ l, l < 3 → ∀ w, w < 16 → ∀ i, i < 8 → tp_h l w i < 16 := by decide +kernel
theorem tp_or : ∀ x, x < 16 → ∀ y, y < 16 → nI x ||| nI y = nI (x ||| y) := by decide +kernel
theorem tp_rdI : ∀ l, l < 3 → ∀ w, w < 16 → nI w &&& (nI (tp_h l w 7) ^^^ (-1)) = nI (tp_rd l w) := by decide +kernel
theorem tp_rde (l w : Nat) : tp_rd l w ≤ w := by
  unfold tp_rd
  split
  · exact Nat.and_le_left
  · exact Nat.le_refl _
theorem tp_ready {post : Int32 → Prop} {l w : Nat} (hl : l < 3) (hw : w < 16) (h2 : tp_A a2 (tp_c l)) (H : post (nI (tp_rd l w))) :
    wpX_readyIn post (m, c, p, fk, sk, a1, a2, a3, a4, a5, a6, a7) (nI w) := by
  refine pk_loop (fun n i s => wX_readyIn_4 post (nI w) m c p fk sk a1 a2 a3 a4 a5 a6 a7 n (nI s) (nI i)) (fun i s => s = tp_h l w i) 7 0 0 (by omega) rfl ?_ ?_
  · intro n s h
    have h' : s = tp_h l w 7 := h
    refine pk_le 7 7 (fun _ => ?_) (fun z => absurd z (by omega))
    show post (nI w &&& (nI s ^^^ (-1)))
    rw [h', tp_rdI l hl w hw]
    exact H
  · intro n i s hi h hw'
    have e : s = tp_h l w i := h
    refine pk_le 7 i (fun z => absurd z (by omega)) (fun _ => tp_ifb hw hi (fun z => nm_r (nI_1 i) (hw' s ?_)) (fun z => ⟨pk_in i 7 hi, nm_r (e' := nI (tp_h l w i ||| tp_c l i)) ?_ (nm_r (nI_1 i) (hw' (tp_h l w i ||| tp_c l i) ?_))⟩))
    · show s = tp_h l w (i + 1)
      rw [tp_h, if_neg (by rw [z]; decide)]
      exact e
    · rw [nI_clamp (by omega), h2 i hi, e, tp_or _ (tp_h16 l hl w hw i (by omega)) _ (tp_c16 l i)]
    · show (tp_h l w i ||| tp_c l i) = tp_h l w (i + 1)
      rw [tp_h, if_pos z]
/-- the most urgent of the first i tasks (7: none) -/
def tp_mf (D : Nat → Nat) (r : Nat) : Nat → Nat
  | 0 => 7
  | i + 1 => tp_fo (tp_mf D r i) (fun b => if r.testBit i = true then (if b = 7 then i else if D b ≤ D i then b else i) else b)
theorem tp_mf_s (D : Nat → Nat) (r i : Nat) : tp_mf D r (i + 1) = if r.testBit i = true then (if tp_mf D r i = 7 then i else if D (tp_mf D r i) ≤ D i then tp_mf D r i else i) else tp_mf D r i := by rw [tp_mf, tp_fo_eq]
theorem tp_mf_ok (D : Nat → Nat) (r : Nat) : ∀ i, i ≤ 7 → tp_mf D r i = 7 ∨ (tp_mf D r i < i ∧ r.testBit (tp_mf D r i) = true) := by
  intro i
  induction i with
  | zero => exact fun _ => Or.inl rfl
  | succ i ih =>
    intro hi
    rw [tp_mf_s]
    rcases ih (by omega) with h | ⟨h1, h2⟩
    · by_cases z : r.testBit i = true
      · rw [if_pos z, if_pos h]
        exact Or.inr ⟨by omega, z⟩
      · rw [if_neg z]
        exact Or.inl h
    · by_cases z : r.testBit i = true
      · rw [if_pos z, if_neg (by omega)]
        by_cases g : D (tp_mf D r i) ≤ D i
        · rw [if_pos g]
          exact Or.inr ⟨by omega, h2⟩
        · rw [if_neg g]
          exact Or.inr ⟨by omega, z⟩
      · rw [if_neg z]
        exact Or.inr ⟨by omega, h2⟩
theorem tp_mf_ne (D : Nat → Nat) (r : Nat) : ∀ i, i ≤ 7 → tp_mf D r i = 7 → ∀ j, j < i → r.testBit j = false := by
  intro i
  induction i with
  | zero => exact fun _ _ j hj => absurd hj (by omega)
  | succ i ih =>
    intro hi h
    rw [tp_mf_s] at h
    by_cases z : r.testBit i = true
    · rw [if_pos z] at h
      rcases tp_mf_ok D r i (by omega) with g | ⟨g1, g2⟩
      · rw [if_pos g] at h
        omega
      · rw [if_neg (by omega)] at h
        by_cases g : D (tp_mf D r i) ≤ D i
        · rw [if_pos g] at h
          omega
        · rw [if_neg g] at h
          omega
    · rw [if_neg z] at h
      exact lt_s (p := fun j => r.testBit j = false) (ih (by omega) h) (by simpa using z)
theorem tp_mf_in {D : Nat → Nat} {n r : Nat} (hn : n ≤ 4) (hr : r < 2 ^ n) (h0 : r ≠ 0) : tp_mf D r 7 < n ∧ r.testBit (tp_mf D r 7) = true := by
  rcases tp_mf_ok D r 7 (by omega) with g | ⟨g1, g2⟩
  · exact absurd (tp_r0 r (Nat.lt_of_lt_of_le hr (tp_p16 hn)) (tp_mf_ne D r 7 (by omega) g)) h0
  · exact ⟨tp_inn hr g2, g2⟩
def tp_b (b : Nat) : Int32 := if b = 7 then -1 else nI b
theorem tp_bn {b : Nat} (h : b < 7) : tp_b b = nI b := if_neg (by omega)
theorem tp_most {post : Int32 → Prop} {D : Nat → Nat} {n r : Nat} (hn : n ≤ 4) (hr : r < 2 ^ n) (h0 : r ≠ 0) (hD : ∀ j, j < n → a5 j = nI (D j) ∧ D j ≤ 8)
    (H : post (nI (tp_mf D r 7))) :
    wpX_mostUrgent post (m, c, p, fk, sk, a1, a2, a3, a4, a5, a6, a7) (nI r) := by
  have h16 : r < 16 := Nat.lt_of_lt_of_le hr (tp_p16 hn)
  refine pk_loop (fun f i s => wX_mostUrgent_4 post (nI r) m c p fk sk a1 a2 a3 a4 a5 a6 a7 f s (nI i)) (fun i s => s = tp_b (tp_mf D r i)) 7 0 (-1) (by omega) rfl ?_ ?_
  · intro f s h
    have h' : s = tp_b (tp_mf D r 7) := h
    have b1 := (tp_mf_in (D := D) hn hr h0).1
    rw [tp_bn (by omega)] at h'
    refine pk_le 7 7 (fun _ => ?_) (fun z => absurd z (by omega))
    rw [h']
    exact H
  · intro f i s hi h hw
    have e : s = tp_b (tp_mf D r i) := h
    have hw' : ∀ s', s' = tp_b (tp_mf D r (i + 1)) → wX_mostUrgent_4 post (nI r) m c p fk sk a1 a2 a3 a4 a5 a6 a7 f s' (nI (i + 1)) := hw
    refine pk_le 7 i (fun z => absurd z (by omega)) (fun _ => tp_ifb h16 hi (fun z => nm_r (nI_1 i) (hw' s ?_)) (fun z => ?_))
    · rw [tp_mf_s, if_neg (by rw [z]; decide)]
      exact e
    · rcases tp_mf_ok D r i (by omega) with g | ⟨g1, g2⟩
      · have es : s = -1 := by rw [e, g]; rfl
        refine br_t (by rw [es]; decide) (nm_r (nI_1 i) (hw' (nI i) ?_))
        rw [tp_mf_s, if_pos z, if_pos g, tp_bn (by omega)]
      · have es : s = nI (tp_mf D r i) := by rw [e, tp_bn (by omega)]
        obtain ⟨x1, x2⟩ := hD i (tp_inn hr z)
        obtain ⟨y1, y2⟩ := hD _ (tp_inn hr g2)
        have E : ∀ v, (if D (tp_mf D r i) ≤ D i then tp_mf D r i else i) = v → v < 7 → nI v = tp_b (tp_mf D r (i + 1)) := by
          intro v ev hv
          rw [tp_mf_s, if_pos z, if_neg (by omega), ev, tp_bn hv]
        rw [es]
        refine br_f (nI_pos (by omega)) ⟨pk_in i 7 hi, pk_in (tp_mf D r i) 7 (by omega), pk_le (D (tp_mf D r i)) (D i) (fun q => nm_r (nI_1 i) (hw' _ (E _ (if_pos q) (by omega)))) (fun q => nm_r (nI_1 i) (hw' _ (E _ (if_neg (by omega)) hi))) (by rw [nI_clamp (by omega)]; exact y1) (by rw [nI_clamp (by omega)]; exact x1) (by omega) (by omega)⟩
/-- one slot: q machines still free, w waiting, r ready -/
def tp_in (D : Nat → Nat) (s : Nat) : Nat → Nat → Nat → Option Nat
  | 0, w, _ => some w
  | q + 1, w, r => if r = 0 then some w else tp_fo (tp_mf D r 7) (fun i => if D i ≤ s then none else tp_in D s q (tp_cl w i) (tp_cl r i))
theorem tp_in_s (D : Nat → Nat) (s q w r : Nat) : tp_in D s (q + 1) w r = if r = 0 then some w else if D (tp_mf D r 7) ≤ s then none else tp_in D s q (tp_cl w (tp_mf D r 7)) (tp_cl r (tp_mf D r 7)) := by rw [tp_in, tp_fo_eq]
theorem tp_d26 {post : Int32 → Prop} {J : Int32 → Int32 → Prop} {D : Nat → Nat} {M n s : Nat} (hM : M ≤ 2) (hn : n ≤ 4) (hs : s < 8) (hD : ∀ j, j < n → a5 j = nI (D j) ∧ D j ≤ 8) :
    ∀ (q t w r : Nat), t + q = M → w < 2 ^ n → r < 2 ^ n → (tp_in D s q w r = none → post 0) → (∀ w', w' < 2 ^ n → tp_in D s q w r = some w' → J (nI w') (nI (s + 1))) →
    wX_dispatch_26 post J (nI s) (nI M) c p fk sk a1 a2 a3 a4 a5 a6 a7 (q + 1) (nI w) (nI r) (nI t) := by
  intro q
  induction q with
  | zero =>
    intro t w r ht hw hr h1 h2
    exact pk_le M t (fun _ => nm_r (nI_1 s) (h2 w hw rfl)) (fun z => absurd z (by omega))
  | succ q ih =>
    intro t w r ht hw hr h1 h2
    have p16 := tp_p16 hn
    refine pk_le M t (fun z => absurd z (by omega)) (fun _ => ?_)
    rw [tp_in_s] at h1
    by_cases r0 : r = 0
    · exact br_t (by rw [r0]; rfl) (nm_r (nI_1 s) (h2 w hw (by rw [tp_in_s, if_pos r0])))
    · rw [if_neg r0] at h1
      obtain ⟨b1, b2⟩ := tp_mf_in (D := D) hn hr r0
      obtain ⟨d1, d2⟩ := hD _ b1
      have c1 := tp_cle w (tp_mf D r 7)
      have c2 := tp_cle r (tp_mf D r 7)
      refine br_f (nI_ne0 (by omega) (by omega)) (tp_most hn hr r0 hD ?_)
      refine ⟨pk_in (tp_mf D r 7) 7 (by omega), pk_lt s (D (tp_mf D r 7)) (fun z => nm_r (tp_clI r (by omega) _ (by omega)) (nm_r (tp_clI w (by omega) _ (by omega)) (nm_r (nI_1 t) (ih (t + 1) _ _ (by omega) (by omega) (by omega) (fun g => h1 ?_) (fun w' hw' g => h2 w' hw' ?_))))) (fun z => h1 (if_pos z)) rfl (by rw [nI_clamp (by omega)]; exact d1) (by omega) (by omega)⟩
      · rw [if_neg (by omega)]
        exact g
      · rw [tp_in_s, if_neg r0, if_neg (by omega)]
        exact g
/-- the slots from s on, f of them -/
def tp_ds (M l : Nat) (D : Nat → Nat) : Nat → Nat → Nat → Bool
  | 0, _, w => w == 0
  | f + 1, s, w => if w = 0 then true else match tp_fo (tp_rd l w) (fun r => tp_in D s M w r) with
    | none => false
    | some w' => tp_fo w' (fun v => tp_ds M l D f (s + 1) v)
theorem tp_ds_n {M l : Nat} {D : Nat → Nat} {f s w : Nat} (h0 : w ≠ 0) (h : tp_in D s M w (tp_rd l w) = none) : tp_ds M l D (f + 1) s w = false := by rw [tp_ds, if_neg h0, tp_fo_eq, h]
theorem tp_ds_s {M l : Nat} {D : Nat → Nat} {f s w w' : Nat} (h0 : w ≠ 0) (h : tp_in D s M w (tp_rd l w) = some w') : tp_ds M l D (f + 1) s w = tp_ds M l D f (s + 1) w' := by
  rw [tp_ds, if_neg h0, tp_fo_eq, h]
  exact tp_fo_eq _ _
theorem tp_d7 {post : Int32 → Prop} {D : Nat → Nat} {M n l : Nat} (hM : M ≤ 2) (hn : n ≤ 4) (hl : l < 3) (h2 : tp_A a2 (tp_c l)) (hD : ∀ j, j < n → a5 j = nI (D j) ∧ D j ≤ 8) :
    ∀ (f s w : Nat), s + f = 8 → w < 2 ^ n → post (tp_bI (tp_ds M l D f s w)) →
    wX_dispatch_7 post (nI M) c p fk sk a1 a2 a3 a4 a5 a6 a7 (f + 1) (nI w) (nI s) := by
  have p16 := tp_p16 hn
  intro f
  induction f with
  | zero =>
    intro s w hs hw H
    refine pk_le 8 s (fun _ => pk_eq w 0 (fun z => ?_) (fun z => ?_)) (fun z => absurd z (by omega))
    · rw [z] at H
      exact H
    · have e : tp_ds M l D 0 s w = false := by
        show (w == 0) = false
        simpa using z
      rw [e] at H
      exact H
  | succ f ih =>
    intro s w hs hw H
    refine pk_le 8 s (fun z => absurd z (by omega)) (fun _ => ?_)
    by_cases w0 : w = 0
    · rw [tp_ds, if_pos w0] at H
      refine br_t (by rw [w0]; rfl) (br_t (by rw [w0]; rfl) H)
    · refine br_f (nI_ne0 (by omega) (by omega)) (tp_ready hl (by omega) h2 ?_)
      have c1 := tp_rde l w
      refine ⟨M + 1, tp_d26 hM hn (by omega) hD M 0 w (tp_rd l w) (by omega) hw (by omega) (fun g => ?_) (fun w' hw' g => ?_)⟩
      · rw [tp_ds_n w0 g] at H
        exact H
      · rw [tp_ds_s w0 g] at H
        exact ih (s + 1) w' (by omega) hw' H
theorem tp_disp {post : Int32 → Prop} {D : Nat → Nat} {M n l : Nat} (hM : M ≤ 2) (hn : n ≤ 4) (hl : l < 3) (h2 : tp_A a2 (tp_c l)) (hD : ∀ j, j < n → a5 j = nI (D j) ∧ D j ≤ 8)
    (H : post (tp_bI (tp_ds M l D 8 0 (2 ^ n - 1)))) :
    wpX_dispatch post (nI M, c, nI (2 ^ n - 1), fk, sk, a1, a2, a3, a4, a5, a6, a7) :=
  ⟨9, tp_d7 hM hn hl h2 hD 8 0 (2 ^ n - 1) (by omega) (by have := Nat.two_pow_pos n; omega) H⟩
end
end
section
section
variable {c fk sk : Int32} {a1 a2 a3 a4 a5 a6 a7 : Nat → Int32}
/-- the deadlines drawn in -/
def tp_D (l : Nat) (k : Nat → Nat) (j : Nat) : Nat := if j < l then min (k j) (k 2 - 1) else k j
/-- whether n tasks, l of them linked to task 2, with the deadlines k, have a good timetable on M machines -/
def tp_G (M n l : Nat) (k : Nat → Nat) : Bool := if 0 < l ∧ k 2 ≤ 1 then false else tp_ds M l (tp_D l k) 8 0 (2 ^ n - 1)
/-- how many tasks a mask holds -/
def tp_pc (w : Nat) : Nat := w % 2 + w / 2 % 2 + w / 4 % 2 + w / 8 % 2
theorem tp_pcl : ∀ w, w < 16 → ∀ i, i < 4 → w.testBit i = true → tp_pc (tp_cl w i) + 1 = tp_pc w := by decide +kernel
theorem tp_pc1 : ∀ w, w < 16 → 0 < w → 1 ≤ tp_pc w := by decide +kernel
theorem tp_pcn : ∀ n, n < 5 → tp_pc (2 ^ n - 1) ≤ 4 := by decide +kernel
theorem tp_all : ∀ n, n < 5 → ∀ j, j < n → (2 ^ n - 1).testBit j = true := by decide +kernel
theorem tp_g32 {post : Int32 → St2 → Prop} {M n l : Nat} {k : Nat → Nat} (hM : M ≤ 2) (hn : n ≤ 4) (hl : l < 3) (hnl : 0 < l → 3 ≤ n) (hk8 : ∀ j, j < 7 → k j ≤ 8) (hk1 : ∀ j, j < n → 1 ≤ k j) (h2 : tp_A a2 (tp_c l)) (h3 : tp_A a3 (tp_c l)) (h4 : tp_A a4 k)
    (H : ∀ b, post (tp_bI (tp_G M n l k)) (nI M, c, nI (2 ^ n - 1), fk, sk, a1, a2, a3, a4, b, a6, a7)) :
    ∀ (f w t : Nat) (b : Nat → Int32), w < f → w < 2 ^ n → t + tp_pc w ≤ 4 → (∀ j, j < n → w.testBit j = false → b j = nI (tp_D l k j) ∧ 1 ≤ tp_D l k j) →
    wX_good_32 post f (nI w) (nI t) (nI M) c (nI (2 ^ n - 1)) fk sk a1 a2 a3 a4 b a6 a7 := by
  have p16 := tp_p16 hn
  have D8 : ∀ j, j < 7 → tp_D l k j ≤ 8 := by
    intro j hj
    have := hk8 j hj
    unfold tp_D
    split <;> omega
  intro f
  induction f with
  | zero => exact fun w t b h => absurd h (by omega)
  | succ f ih =>
    intro w t b hwf hw ht hb
    refine pk_le 7 t (fun z => absurd z (by omega)) (fun _ => ?_)
    by_cases w0 : w = 0
    · have hD1 : ∀ j, j < n → b j = nI (tp_D l k j) ∧ 1 ≤ tp_D l k j := fun j hj => hb j hj (by rw [w0]; exact Nat.zero_testBit j)
      have eG : tp_G M n l k = tp_ds M l (tp_D l k) 8 0 (2 ^ n - 1) := by
        unfold tp_G
        refine if_neg (fun z => ?_)
        have := (hD1 0 (by have := hnl z.1; omega)).2
        unfold tp_D at this
        rw [if_pos z.1] at this
        omega
      refine br_t (by rw [w0]; rfl) (tp_disp (D := tp_D l k) hM hn hl h2 (fun j hj => ⟨(hD1 j hj).1, D8 j (by omega)⟩) ?_)
      rw [← eG]
      exact ⟨tp_nb _, H b⟩
    · have q1 := tp_pc1 w (by omega) (by omega)
      refine br_f (nI_ne0 (by omega) (by omega)) (tp_wf hl hn hw w0 h3 (fun i hi hbi hc => ?_))
      have q2 := tp_pcl w (by omega) i (by omega) hbi
      obtain ⟨c1, c2, c3⟩ := tp_clt w (by omega) i (by omega) hbi
      refine tp_draw (q := k 2) (k0 := k i) hl (by omega) (hk8 i (by omega)) (hk8 2 (by omega)) h3 (h4 i (by omega)) (fun z => ?_) ?_
      · have n3 := hnl (by omega)
        have := (hb 2 (by omega) (hc z)).1
        have e2 : tp_D l k 2 = k 2 := if_neg (by omega)
        rw [e2] at this
        exact ⟨this, hk1 2 (by omega)⟩
      · have Di := D8 i (by omega)
        refine ⟨pk_in i 7 (by omega), pk_le 1 (tp_D l k i) (fun z => nm_r (tp_clI w (by omega) i (by omega)) (nm_r (nI_1 t) (ih (tp_cl w i) (t + 1) _ (by omega) (by omega) (by omega) (fun j hj g => ?_)))) (fun z => ?_) rfl (by rw [nI_clamp (by omega), pk_us]; rfl) (by omega) (by omega)⟩
        · by_cases e : j = i
          · rw [e, pk_us]
            exact ⟨rfl, z⟩
          · rw [pk_un e]
            rw [c3 j (by omega) e] at g
            exact hb j hj g
        · have k1 := hk1 i hi
          have eG : tp_G M n l k = false := by
            unfold tp_G
            unfold tp_D at z
            refine if_pos ?_
            by_cases g : i < l
            · rw [if_pos g] at z
              omega
            · rw [if_neg g] at z
              omega
          have := H (upd b i (nI (if i < l then min (k i) (k 2 - 1) else k i)))
          rw [eG] at this
          exact this
theorem tp_good {post : Int32 → St2 → Prop} {M n l : Nat} {k : Nat → Nat} (hM : M ≤ 2) (hn : n ≤ 4) (hl : l < 3) (hnl : 0 < l → 3 ≤ n) (hk8 : ∀ j, j < 7 → k j ≤ 8) (hk1 : ∀ j, j < n → 1 ≤ k j) (h2 : tp_A a2 (tp_c l)) (h4 : tp_A a4 k)
    (H : ∀ b3 b5, post (tp_bI (tp_G M n l k)) (nI M, c, nI (2 ^ n - 1), fk, sk, a1, a2, b3, a4, b5, a6, a7)) :
    wpX_good post (nI M, c, nI (2 ^ n - 1), fk, sk, a1, a2, a3, a4, a5, a6, a7) := by
  have p1 := Nat.two_pow_pos n
  refine tp_close hl h2 (fun b hb => ?_)
  refine pk_loop (fun f i s => wX_good_6 post (nI M) c (nI (2 ^ n - 1)) fk sk f (nI i) a1 a2 b a4 s a6 a7) (fun _ _ => True) 7 0 a5 (by omega) trivial ?_ ?_
  · intro f s _
    exact pk_le 7 7 (fun _ => ⟨2 ^ n, tp_g32 hM hn hl hnl hk8 hk1 h2 hb h4 (H b) (2 ^ n) (2 ^ n - 1) 0 s (by omega) (by omega) (by have := tp_pcn n (by omega); omega) (fun j hj g => absurd (tp_all n (by omega) j hj) (by rw [g]; decide))⟩) (fun z => absurd z (by omega))
  · intro f i s hi _ hw
    exact pk_le 7 i (fun z => absurd z (by omega)) (fun _ => ⟨pk_in i 7 hi, nm_e (nm_r (nI_1 i) (hw _ trivial))⟩)
theorem tp_g32_2 {post : Int32 → St2 → Prop} {M n l : Nat} {k : Nat → Nat} (hM : M ≤ 2) (hn : n ≤ 4) (hl : l < 3) (hnl : 0 < l → 3 ≤ n) (hk8 : ∀ j, j < 7 → k j ≤ 8) (hk1 : ∀ j, j < n → 1 ≤ k j) (h2 : tp_A a2 (tp_c l)) (h3 : tp_A a3 (tp_c l)) (h4 : tp_A a4 k)
    (H : ∀ b, post (tp_bI (tp_G M n l k)) (nI M, c, nI (2 ^ n - 1), fk, sk, a1, a2, a3, a4, b, a6, a7)) :
    ∀ (f w t : Nat) (b : Nat → Int32), w < f → w < 2 ^ n → t + tp_pc w ≤ 4 → (∀ j, j < n → w.testBit j = false → b j = nI (tp_D l k j) ∧ 1 ≤ tp_D l k j) →
    wX_good_2_32 post f (nI w) (nI t) (nI M) c (nI (2 ^ n - 1)) fk sk a1 a2 a3 a4 b a6 a7 := by
  have p16 := tp_p16 hn
  have D8 : ∀ j, j < 7 → tp_D l k j ≤ 8 := by
    intro j hj
    have := hk8 j hj
    unfold tp_D
    split <;> omega
  intro f
  induction f with
  | zero => exact fun w t b h => absurd h (by omega)
  | succ f ih =>
    intro w t b hwf hw ht hb
    refine pk_le 7 t (fun z => absurd z (by omega)) (fun _ => ?_)
    by_cases w0 : w = 0
    · have hD1 : ∀ j, j < n → b j = nI (tp_D l k j) ∧ 1 ≤ tp_D l k j := fun j hj => hb j hj (by rw [w0]; exact Nat.zero_testBit j)
      have eG : tp_G M n l k = tp_ds M l (tp_D l k) 8 0 (2 ^ n - 1) := by
        unfold tp_G
        refine if_neg (fun z => ?_)
        have := (hD1 0 (by have := hnl z.1; omega)).2
        unfold tp_D at this
        rw [if_pos z.1] at this
        omega
      refine br_t (by rw [w0]; rfl) (tp_disp (D := tp_D l k) hM hn hl h2 (fun j hj => ⟨(hD1 j hj).1, D8 j (by omega)⟩) ?_)
      rw [← eG]
      exact ⟨tp_nb _, H b⟩
    · have q1 := tp_pc1 w (by omega) (by omega)
      refine br_f (nI_ne0 (by omega) (by omega)) (tp_wf hl hn hw w0 h3 (fun i hi hbi hc => ?_))
      have q2 := tp_pcl w (by omega) i (by omega) hbi
      obtain ⟨c1, c2, c3⟩ := tp_clt w (by omega) i (by omega) hbi
      refine tp_draw_2 (q := k 2) (k0 := k i) hl (by omega) (hk8 i (by omega)) (hk8 2 (by omega)) h3 (h4 i (by omega)) (fun z => ?_) ?_
      · have n3 := hnl (by omega)
        have := (hb 2 (by omega) (hc z)).1
        have e2 : tp_D l k 2 = k 2 := if_neg (by omega)
        rw [e2] at this
        exact ⟨this, hk1 2 (by omega)⟩
      · have Di := D8 i (by omega)
        refine ⟨pk_in i 7 (by omega), pk_le 1 (tp_D l k i) (fun z => nm_r (tp_clI w (by omega) i (by omega)) (nm_r (nI_1 t) (ih (tp_cl w i) (t + 1) _ (by omega) (by omega) (by omega) (fun j hj g => ?_)))) (fun z => ?_) rfl (by rw [nI_clamp (by omega), pk_us]; rfl) (by omega) (by omega)⟩
        · by_cases e : j = i
          · rw [e, pk_us]
            exact ⟨rfl, z⟩
          · rw [pk_un e]
            rw [c3 j (by omega) e] at g
            exact hb j hj g
        · have k1 := hk1 i hi
          have eG : tp_G M n l k = false := by
            unfold tp_G
            unfold tp_D at z
            refine if_pos ?_
            by_cases g : i < l
            · rw [if_pos g] at z
              omega
            · rw [if_neg g] at z
              omega
          have := H (upd b i (nI (if i < l then min (k i) (k 2 - 1) else k i)))
          rw [eG] at this
          exact this
theorem tp_good_2 {post : Int32 → St2 → Prop} {M n l : Nat} {k : Nat → Nat} (hM : M ≤ 2) (hn : n ≤ 4) (hl : l < 3) (hnl : 0 < l → 3 ≤ n) (hk8 : ∀ j, j < 7 → k j ≤ 8) (hk1 : ∀ j, j < n → 1 ≤ k j) (h2 : tp_A a2 (tp_c l)) (h4 : tp_A a4 k)
    (H : ∀ b3 b5, post (tp_bI (tp_G M n l k)) (nI M, c, nI (2 ^ n - 1), fk, sk, a1, a2, b3, a4, b5, a6, a7)) :
    wpX_good_2 post (nI M, c, nI (2 ^ n - 1), fk, sk, a1, a2, a3, a4, a5, a6, a7) := by
  have p1 := Nat.two_pow_pos n
  refine tp_close_2 hl h2 (fun b hb => ?_)
  refine pk_loop (fun f i s => wX_good_2_6 post (nI M) c (nI (2 ^ n - 1)) fk sk f (nI i) a1 a2 b a4 s a6 a7) (fun _ _ => True) 7 0 a5 (by omega) trivial ?_ ?_
  · intro f s _
    exact pk_le 7 7 (fun _ => ⟨2 ^ n, tp_g32_2 hM hn hl hnl hk8 hk1 h2 hb h4 (H b) (2 ^ n) (2 ^ n - 1) 0 s (by omega) (by omega) (by have := tp_pcn n (by omega); omega) (fun j hj g => absurd (tp_all n (by omega) j hj) (by rw [g]; decide))⟩) (fun z => absurd z (by omega))
  · intro f i s hi _ hw
    exact pk_le 7 i (fun z => absurd z (by omega)) (fun _ => ⟨pk_in i 7 hi, nm_e (nm_r (nI_1 i) (hw _ trivial))⟩)
theorem tp_g32_3 {post : Int32 → St2 → Prop} {M n l : Nat} {k : Nat → Nat} (hM : M ≤ 2) (hn : n ≤ 4) (hl : l < 3) (hnl : 0 < l → 3 ≤ n) (hk8 : ∀ j, j < 7 → k j ≤ 8) (hk1 : ∀ j, j < n → 1 ≤ k j) (h2 : tp_A a2 (tp_c l)) (h3 : tp_A a3 (tp_c l)) (h4 : tp_A a4 k)
    (H : ∀ b, post (tp_bI (tp_G M n l k)) (nI M, c, nI (2 ^ n - 1), fk, sk, a1, a2, a3, a4, b, a6, a7)) :
    ∀ (f w t : Nat) (b : Nat → Int32), w < f → w < 2 ^ n → t + tp_pc w ≤ 4 → (∀ j, j < n → w.testBit j = false → b j = nI (tp_D l k j) ∧ 1 ≤ tp_D l k j) →
    wX_good_3_32 post f (nI w) (nI t) (nI M) c (nI (2 ^ n - 1)) fk sk a1 a2 a3 a4 b a6 a7 := by
  have p16 := tp_p16 hn
  have D8 : ∀ j, j < 7 → tp_D l k j ≤ 8 := by
    intro j hj
    have := hk8 j hj
    unfold tp_D
    split <;> omega
  intro f
  induction f with
  | zero => exact fun w t b h => absurd h (by omega)
  | succ f ih =>
    intro w t b hwf hw ht hb
    refine pk_le 7 t (fun z => absurd z (by omega)) (fun _ => ?_)
    by_cases w0 : w = 0
    · have hD1 : ∀ j, j < n → b j = nI (tp_D l k j) ∧ 1 ≤ tp_D l k j := fun j hj => hb j hj (by rw [w0]; exact Nat.zero_testBit j)
      have eG : tp_G M n l k = tp_ds M l (tp_D l k) 8 0 (2 ^ n - 1) := by
        unfold tp_G
        refine if_neg (fun z => ?_)
        have := (hD1 0 (by have := hnl z.1; omega)).2
        unfold tp_D at this
        rw [if_pos z.1] at this
        omega
      refine br_t (by rw [w0]; rfl) (tp_disp (D := tp_D l k) hM hn hl h2 (fun j hj => ⟨(hD1 j hj).1, D8 j (by omega)⟩) ?_)
      rw [← eG]
      exact ⟨tp_nb _, H b⟩
    · have q1 := tp_pc1 w (by omega) (by omega)
      refine br_f (nI_ne0 (by omega) (by omega)) (tp_wf hl hn hw w0 h3 (fun i hi hbi hc => ?_))
      have q2 := tp_pcl w (by omega) i (by omega) hbi
      obtain ⟨c1, c2, c3⟩ := tp_clt w (by omega) i (by omega) hbi
      refine tp_draw_3 (q := k 2) (k0 := k i) hl (by omega) (hk8 i (by omega)) (hk8 2 (by omega)) h3 (h4 i (by omega)) (fun z => ?_) ?_
      · have n3 := hnl (by omega)
        have := (hb 2 (by omega) (hc z)).1
        have e2 : tp_D l k 2 = k 2 := if_neg (by omega)
        rw [e2] at this
        exact ⟨this, hk1 2 (by omega)⟩
      · have Di := D8 i (by omega)
        refine ⟨pk_in i 7 (by omega), pk_le 1 (tp_D l k i) (fun z => nm_r (tp_clI w (by omega) i (by omega)) (nm_r (nI_1 t) (ih (tp_cl w i) (t + 1) _ (by omega) (by omega) (by omega) (fun j hj g => ?_)))) (fun z => ?_) rfl (by rw [nI_clamp (by omega), pk_us]; rfl) (by omega) (by omega)⟩
        · by_cases e : j = i
          · rw [e, pk_us]
            exact ⟨rfl, z⟩
          · rw [pk_un e]
            rw [c3 j (by omega) e] at g
            exact hb j hj g
        · have k1 := hk1 i hi
          have eG : tp_G M n l k = false := by
            unfold tp_G
            unfold tp_D at z
            refine if_pos ?_
            by_cases g : i < l
            · rw [if_pos g] at z
              omega
            · rw [if_neg g] at z
              omega
          have := H (upd b i (nI (if i < l then min (k i) (k 2 - 1) else k i)))
          rw [eG] at this
          exact this
theorem tp_good_3 {post : Int32 → St2 → Prop} {M n l : Nat} {k : Nat → Nat} (hM : M ≤ 2) (hn : n ≤ 4) (hl : l < 3) (hnl : 0 < l → 3 ≤ n) (hk8 : ∀ j, j < 7 → k j ≤ 8) (hk1 : ∀ j, j < n → 1 ≤ k j) (h2 : tp_A a2 (tp_c l)) (h4 : tp_A a4 k)
    (H : ∀ b3 b5, post (tp_bI (tp_G M n l k)) (nI M, c, nI (2 ^ n - 1), fk, sk, a1, a2, b3, a4, b5, a6, a7)) :
    wpX_good_3 post (nI M, c, nI (2 ^ n - 1), fk, sk, a1, a2, a3, a4, a5, a6, a7) := by
  have p1 := Nat.two_pow_pos n
  refine tp_close_3 hl h2 (fun b hb => ?_)
  refine pk_loop (fun f i s => wX_good_3_6 post (nI M) c (nI (2 ^ n - 1)) fk sk f (nI i) a1 a2 b a4 s a6 a7) (fun _ _ => True) 7 0 a5 (by omega) trivial ?_ ?_
  · intro f s _
    exact pk_le 7 7 (fun _ => ⟨2 ^ n, tp_g32_3 hM hn hl hnl hk8 hk1 h2 hb h4 (H b) (2 ^ n) (2 ^ n - 1) 0 s (by omega) (by omega) (by have := tp_pcn n (by omega); omega) (fun j hj g => absurd (tp_all n (by omega) j hj) (by rw [g]; decide))⟩) (fun z => absurd z (by omega))
  · intro f i s hi _ hw
    exact pk_le 7 i (fun z => absurd z (by omega)) (fun _ => ⟨pk_in i 7 hi, nm_e (nm_r (nI_1 i) (hw _ trivial))⟩)
theorem tp_feas {post : Int32 → St2 → Prop} {M n l : Nat} {du : Nat → Nat} (hM : M ≤ 2) (hn : n ≤ 4) (hl : l < 3) (hnl : 0 < l → 3 ≤ n) (hd : ∀ j, j < 7 → du j ≤ 8) (hd1 : ∀ j, j < n → 1 ≤ du j) (h1 : tp_A a1 du) (h2 : tp_A a2 (tp_c l))
    (H : ∀ b3 b4 b5, post (tp_bI (tp_G M n l du)) (nI M, c, nI (2 ^ n - 1), fk, sk, a1, a2, b3, b4, b5, a6, a7)) :
    wpX_feasible post (nI M, c, nI (2 ^ n - 1), fk, sk, a1, a2, a3, a4, a5, a6, a7) := by
  unfold wpX_feasible
  refine tp_ask8 hd h1 (fun b hb => ?_)
  refine tp_good hM hn hl hnl hd hd1 h2 hb (fun b3 b5 => ?_)
  exact ⟨tp_nb _, H b3 b b5⟩
end
end
section
section
variable {m fk sk : Int32} {a1 a2 a3 a4 a5 a6 a7 : Nat → Int32}
theorem tp_free {post : Int32 → Prop} {n : Nat} (hn : n < 4) (H : post (nI n)) :
    wpX_freeNumber post (m, 5, nI (2 ^ n - 1), fk, sk, a1, a2, a3, a4, a5, a6, a7) := by
  refine pk_loop (σ := Unit) (fun f i _ => wX_freeNumber_2 post m 5 (nI (2 ^ n - 1)) fk sk a1 a2 a3 a4 a5 a6 a7 f (nI i)) (fun _ _ => True) n 0 () (by omega) trivial ?_ ?_
  · intro f _ _
    exact pk_le 5 n (fun z => absurd z (by omega)) (fun _ => ek_if (tp_pb n (by omega) n (by omega)) (fun _ => H) (fun z => absurd (Nat.le_refl n) z))
  · intro f i _ hi _ hw
    exact pk_le 5 i (fun z => absurd z (by omega)) (fun _ => ek_if (tp_pb n (by omega) i (by omega)) (fun z => absurd z (by omega)) (fun _ => nm_r (nI_1 i) (hw () trivial)))
theorem tp_holds_t {post : Int32 → Prop} {n i : Nat} (hn : n ≤ 4) (hi : i < n) (H : post 1) :
    wpX_holds post (m, 5, nI (2 ^ n - 1), fk, sk, a1, a2, a3, a4, a5, a6, a7) (nI i) :=
  pk_lt i 0 (fun z => absurd z (by omega)) (fun _ => pk_le 5 i (fun z => absurd z (by omega)) (fun _ => ek_if (tp_pb n (by omega) i (by omega)) (fun z => absurd z (by omega)) (fun _ => H)))
theorem tp_holds_f {post : Int32 → Prop} {n i : Nat} (hn : n ≤ 4) (hi : n ≤ i) (h5 : i < 5) (H : post 0) :
    wpX_holds post (m, 5, nI (2 ^ n - 1), fk, sk, a1, a2, a3, a4, a5, a6, a7) (nI i) :=
  pk_lt i 0 (fun z => absurd z (by omega)) (fun _ => pk_le 5 i (fun z => absurd z (by omega)) (fun _ => ek_if (tp_pb n (by omega) i (by omega)) (fun _ => H) (fun z => absurd hi z)))
theorem tp_linked {post : Int32 → Prop} {n l i j : Nat} (hn : n ≤ 4) (hl : l < 3) (hi : i < n) (hj : j < n) (hc : ¬ (i < l ∧ j = 2)) (h2 : tp_A a2 (tp_c l)) (H : post 0) :
    wpX_linked post (m, 5, nI (2 ^ n - 1), fk, sk, a1, a2, a3, a4, a5, a6, a7) (nI i) (nI j) := by
  unfold wpX_linked
  refine tp_holds_t hn hi ?_
  refine br_f (by decide) (tp_holds_t hn hj ?_)
  exact br_f (by decide) ⟨pk_in i 7 (by omega), ek_if (d := ¬ (i < l ∧ j = 2)) (by rw [nI_clamp (by omega), h2 i (by omega)]; exact tp_cb l hl i (by omega) j (by omega)) (fun _ => H) (fun z => absurd hc z)⟩
theorem tp_cs {a : Nat → Int32} {l k : Nat} {x : Int32} (h : tp_A a (tp_c l)) (hk : k = l) (hx : x = nI 4) : tp_A (upd a k x) (tp_c (l + 1)) := by
  rw [hk]
  refine tp_Ae (tp_Au h hx) (fun j _ => ?_)
  unfold tp_u tp_c
  by_cases e : j = l
  · rw [if_pos e, if_pos (by omega)]
  · rw [if_neg e]
    by_cases g : j < l
    · rw [if_pos g, if_pos (by omega)]
    · rw [if_neg g, if_neg (by omega)]
theorem tp_cz {a : Nat → Int32} {l k i : Nat} {x : Int32} (h : tp_A a (tp_c (l + i))) (hk : k = l) (hi : i ≤ 1) (hx : x = nI 0) : tp_A (upd a k x) (tp_c l) := by
  rw [hk]
  refine tp_Ae (tp_Au h hx) (fun j _ => ?_)
  unfold tp_u tp_c
  by_cases e : j = l
  · rw [if_pos e, if_neg (by omega)]
  · rw [if_neg e]
    by_cases g : j < l
    · rw [if_pos g, if_pos (by omega)]
    · rw [if_neg g, if_neg (by omega)]
theorem tp_cn {a : Nat → Int32} {l n k : Nat} {x : Int32} (h : tp_A a (tp_c l)) (hk : k = n) (hn : l ≤ n) (hx : x = nI 0) : tp_A (upd a k x) (tp_c l) := by
  rw [hk]
  refine tp_Ae (tp_Au h hx) (fun j _ => ?_)
  unfold tp_u tp_c
  by_cases e : j = n
  · rw [if_pos e, if_neg (by omega)]
  · rw [if_neg e]
theorem tp_cc (l : Nat) : tp_c l l = 0 := if_neg (by omega)
theorem tp_try {post : Int32 → St2 → Prop} {M n l : Nat} {du : Nat → Nat} (hM : M ≤ 2) (hn : n ≤ 4) (hn3 : 3 ≤ n) (hl : l < 2) (hd : ∀ j, j < 7 → du j ≤ 8) (hd1 : ∀ j, j < n → 1 ≤ du j) (h1 : tp_A a1 du) (h2 : tp_A a2 (tp_c l)) (hG : tp_G M n (l + 1) du = true)
    (H : ∀ b2 b3 b4 b5, tp_A b2 (tp_c l) → post 0 (nI M, 5, nI (2 ^ n - 1), fk, sk, a1, b2, b3, b4, b5, a6, a7)) :
    wpX_tryLink post (nI M, 5, nI (2 ^ n - 1), fk, sk, a1, a2, a3, a4, a5, a6, a7) (nI l) (nI 2) := by
  unfold wpX_tryLink
  refine tp_holds_t hn (by omega) ?_
  refine br_f (by decide) (tp_holds_t hn (by omega) ?_)
  refine br_f (by decide) (pk_eq l 2 (fun z => absurd z (by omega)) (fun _ => ?_))
  refine tp_linked hn (by omega) (by omega) (by omega) (by omega) h2 ?_
  refine br_t rfl (tp_close (by omega) h2 (fun b hb => ?_))
  refine ⟨pk_in 2 7 (by omega), ek_if (d := ¬ (2 < l ∧ l = 2)) (by rw [nI_clamp (by omega), hb 2 (by omega)]; exact tp_cb l (by omega) 2 (by omega) l (by omega)) (fun _ => ?_) (fun z => absurd (fun t => absurd t.1 (by omega)) z)⟩
  refine ⟨pk_in l 7 (by omega), nm_r (e' := nI 0) (by rw [nI_clamp (by omega), h2 l (by omega), tp_cc]) ⟨pk_in l 7 (by omega), nm_e ?_⟩⟩
  have h2' : tp_A (upd a2 (nI l).toNatClampNeg ((nI 0 ||| ((1 : Int32) <<< (nI 2 &&& 31))).toInt8.toInt32)) (tp_c (l + 1)) := tp_cs h2 (nI_clamp (by omega)) (by decide)
  refine tp_feas hM hn (by omega) (fun _ => hn3) hd hd1 h1 h2' (fun b3 b4 b5 => ?_)
  refine ⟨pk_in l 7 (by omega), nm_e ?_⟩
  rw [hG]
  exact br_f (by decide) (H _ b3 b4 b5 (tp_cz h2' (nI_clamp (by omega)) (by omega) (by decide)))
theorem tp_link {post : Int32 → St2 → Prop} {M n l : Nat} {du : Nat → Nat} (hM : M ≤ 2) (hn : n ≤ 4) (hn3 : 3 ≤ n) (hl : l < 2) (hd : ∀ j, j < 7 → du j ≤ 8) (hd1 : ∀ j, j < n → 1 ≤ du j) (h1 : tp_A a1 du) (h2 : tp_A a2 (tp_c l)) (hG : tp_G M n (l + 1) du = true)
    (H : ∀ b2 b3 b4 b5, tp_A b2 (tp_c (l + 1)) → post 0 (nI M, 5, nI (2 ^ n - 1), 0, 0, a1, b2, b3, b4, b5, a6, a7)) :
    wpX_link post (nI M, 5, nI (2 ^ n - 1), fk, sk, a1, a2, a3, a4, a5, a6, a7) (nI l) (nI 2) := by
  unfold wpX_link
  refine tp_linked hn (by omega) (by omega) (by omega) (by omega) h2 ?_
  refine tp_try hM hn hn3 hl hd hd1 h1 h2 hG (fun b2 b3 b4 b5 hb2 => ?_)
  refine br_t rfl (br_t rfl ⟨pk_in l 7 (by omega), pk_in l 7 (by omega), nm_e ?_⟩)
  refine H _ b3 b4 b5 (tp_cs hb2 (nI_clamp (by omega)) ?_)
  rw [nI_clamp (by omega), hb2 l (by omega), tp_cc]
  decide
theorem tp_cyc {post : Int32 → St2 → Prop} {n : Nat} (hn : n ≤ 4) (hn3 : 3 ≤ n) (h2 : tp_A a2 (tp_c 2))
    (H : ∀ b3, post (-4) (m, 5, nI (2 ^ n - 1), fk, sk, a1, a2, b3, a4, a5, a6, a7)) :
    wpX_link post (m, 5, nI (2 ^ n - 1), fk, sk, a1, a2, a3, a4, a5, a6, a7) (nI 2) (nI 0) := by
  unfold wpX_link
  refine tp_linked hn (by omega) (by omega) (by omega) (by omega) h2 ?_
  unfold wpX_tryLink
  refine tp_holds_t hn (by omega) ?_
  refine br_f (by decide) (tp_holds_t hn (by omega) ?_)
  refine br_f (by decide) (pk_eq 2 0 (fun z => absurd z (by omega)) (fun _ => ?_))
  refine tp_linked hn (by omega) (by omega) (by omega) (by omega) h2 ?_
  refine br_t rfl (tp_close (by omega) h2 (fun b hb => ?_))
  refine ⟨pk_in 0 7 (by omega), ek_if (d := ¬ (0 < 2 ∧ 2 = 2)) (by rw [nI_clamp (by omega), hb 0 (by omega)]; exact tp_cb 2 (by omega) 0 (by omega) 2 (by omega)) (fun z => absurd ⟨by omega, rfl⟩ z) (fun _ => ?_)⟩
  exact br_f (by decide) (H b)
theorem tp_u8 {du : Nat → Nat} {i d : Nat} (hd : ∀ j, j < 7 → du j ≤ 8) (h : d ≤ 8) : ∀ j, j < 7 → tp_u du i d j ≤ 8 := by
  intro j hj
  have := hd j hj
  unfold tp_u
  split <;> omega
theorem tp_u1 {du : Nat → Nat} {n i d : Nat} (hd : ∀ j, j < n → 1 ≤ du j) (h : 1 ≤ d) : ∀ j, j < n → 1 ≤ tp_u du i d j := by
  intro j hj
  have := hd j hj
  unfold tp_u
  split <;> omega
theorem tp_un1 {du : Nat → Nat} {n d : Nat} (hd : ∀ j, j < n → 1 ≤ du j) (h : 1 ≤ d) : ∀ j, j < n + 1 → 1 ≤ tp_u du n d j := by
  intro j hj
  by_cases e : j = n
  · rw [e, tp_us]
    exact h
  · rw [tp_un e]
    exact hd j (by omega)
theorem tp_setD {post : Int32 → St2 → Prop} {M n l x : Nat} {du : Nat → Nat} (hM : M ≤ 2) (hn : n ≤ 4) (hn3 : 3 ≤ n) (hl : l < 3) (hd : ∀ j, j < 7 → du j ≤ 8) (hd1 : ∀ j, j < n → 1 ≤ du j) (h1 : tp_A a1 du) (h2 : tp_A a2 (tp_c l)) (x1 : 1 ≤ x) (x8 : x ≤ 8)
    (H1 : tp_G M n l (tp_u du 2 x) = true → ∀ b1 b3 b4 b5, tp_A b1 (tp_u du 2 x) → post 0 (nI M, 5, nI (2 ^ n - 1), 0, 0, b1, a2, b3, b4, b5, a6, a7))
    (H0 : tp_G M n l (tp_u du 2 x) = false → ∀ b1 b3 b4 b5, tp_A b1 du → post (-3) (nI M, 5, nI (2 ^ n - 1), fk, sk, b1, a2, b3, b4, b5, a6, a7)) :
    wpX_setDeadline post (nI M, 5, nI (2 ^ n - 1), fk, sk, a1, a2, a3, a4, a5, a6, a7) (nI 2) (nI x) := by
  unfold wpX_setDeadline
  have d2 := hd 2 (by omega)
  refine tp_holds_t hn (by omega) ?_
  refine br_f (by decide) (pk_lt x 1 (fun z => absurd z (by omega)) (fun _ => pk_le x 8 (fun _ => ?_) (fun z => absurd z (by omega))))
  refine ⟨pk_in 2 7 (by omega), nm_r (e' := nI (du 2)) (by rw [nI_clamp (by omega), h1 2 (by omega)]) ⟨pk_in 2 7 (by omega), nm_r (e' := upd a1 2 (nI x)) (by rw [nI_clamp (by omega), tp_n8 x (by omega)]) ?_⟩⟩
  have h1' : tp_A (upd a1 2 (nI x)) (tp_u du 2 x) := tp_Au h1 rfl
  refine tp_feas hM hn hl (fun _ => hn3) (tp_u8 hd x8) (tp_u1 hd1 x1) h1' h2 (fun b3 b4 b5 => ?_)
  cases hG : tp_G M n l (tp_u du 2 x) with
  | false =>
    refine br_t rfl ⟨pk_in 2 7 (by omega), nm_r (e' := upd (upd a1 2 (nI x)) 2 (nI (du 2))) (by rw [nI_clamp (by omega), tp_n8 (du 2) (by omega)]) ?_⟩
    refine H0 hG _ b3 b4 b5 (tp_Ae (tp_Au h1' rfl) (fun j _ => ?_))
    by_cases e : j = 2
    · rw [e, tp_us]
    · rw [tp_un e, tp_un e]
  | true => exact br_f (by decide) (H1 hG _ b3 b4 b5 h1')
theorem tp_setB {post : Int32 → St2 → Prop} {n : Nat} {x : Int32} (hn : n ≤ 4) (hn3 : 3 ≤ n) (hx : x < 1 ∨ ¬ x ≤ 8) (H : post (-1) (m, 5, nI (2 ^ n - 1), fk, sk, a1, a2, a3, a4, a5, a6, a7)) :
    wpX_setDeadline post (m, 5, nI (2 ^ n - 1), fk, sk, a1, a2, a3, a4, a5, a6, a7) (nI 2) x := by
  unfold wpX_setDeadline
  refine tp_holds_t hn (by omega) ?_
  exact br_f (by decide) (br_c (fun _ => H) (fun z => br_f (hx.resolve_left z) H))
theorem tp_new {post : Int32 → St2 → Prop} {M n l d : Nat} {du : Nat → Nat} (hM : M ≤ 2) (hn : n < 4) (hl : l < 3) (hnl : 0 < l → 3 ≤ n) (hd : ∀ j, j < 7 → du j ≤ 8) (hd1 : ∀ j, j < n → 1 ≤ du j) (h1 : tp_A a1 du) (h2 : tp_A a2 (tp_c l)) (d1 : 1 ≤ d) (d8 : d ≤ 8)
    (H1 : tp_G M (n + 1) l (tp_u du n d) = true → ∀ b1 b2 b3 b4 b5, tp_A b1 (tp_u du n d) → tp_A b2 (tp_c l) → post (nI n) (nI M, 5, nI (2 ^ n - 1), fk, sk, b1, b2, b3, b4, b5, a6, a7))
    (H0 : tp_G M (n + 1) l (tp_u du n d) = false → ∀ b1 b2 b3 b4 b5, tp_A b1 (tp_u du n d) → tp_A b2 (tp_c l) → post (-3) (nI M, 5, nI (2 ^ n - 1), fk, sk, b1, b2, b3, b4, b5, a6, a7)) :
    wpX_tryNew post (nI M, 5, nI (2 ^ n - 1), fk, sk, a1, a2, a3, a4, a5, a6, a7) (nI d) 0 := by
  have hln : l ≤ n := by
    rcases Nat.eq_zero_or_pos l with z | z
    · omega
    · have := hnl z
      omega
  unfold wpX_tryNew
  refine tp_free hn ?_
  refine br_t (nI_pos' (by omega)) ⟨pk_in n 7 (by omega), nm_r (e' := upd a1 n (nI d)) (by rw [nI_clamp (by omega), tp_n8 d (by omega)]) ⟨pk_in n 7 (by omega), nm_r (e' := upd a2 n (nI 0)) (by rw [nI_clamp (by omega)]; rfl) (nm_r (tp_pu n hn) ?_)⟩⟩
  have h1' : tp_A (upd a1 n (nI d)) (tp_u du n d) := tp_Au h1 rfl
  have h2' : tp_A (upd a2 n (nI 0)) (tp_c l) := tp_cn h2 rfl hln rfl
  refine tp_feas (n := n + 1) hM (by omega) hl (fun z => by have := hnl z; omega) (tp_u8 hd d8) (tp_un1 hd1 d1) h1' h2' (fun b3 b4 b5 => ?_)
  refine nm_r (tp_pd n hn) ⟨pk_in n 7 (by omega), nm_e ?_⟩
  have h2'' : tp_A (upd (upd a2 n (nI 0)) (nI n).toNatClampNeg 0) (tp_c l) := tp_cn h2' (nI_clamp (by omega)) hln rfl
  cases hG : tp_G M (n + 1) l (tp_u du n d) with
  | false => exact br_t rfl (H0 hG _ _ b3 b4 b5 h1' h2'')
  | true => exact br_f (by decide) (H1 hG _ _ b3 b4 b5 h1' h2'')
theorem tp_add {post : Int32 → St2 → Prop} {M n l d : Nat} {du : Nat → Nat} (hM : M ≤ 2) (hn : n < 4) (hl : l < 3) (hnl : 0 < l → 3 ≤ n) (hd : ∀ j, j < 7 → du j ≤ 8) (hd1 : ∀ j, j < n → 1 ≤ du j) (h1 : tp_A a1 du) (h2 : tp_A a2 (tp_c l)) (d1 : 1 ≤ d) (d8 : d ≤ 8)
    (H1 : tp_G M (n + 1) l (tp_u du n d) = true → ∀ b1 b2 b3 b4 b5, tp_A b1 (tp_u du n d) → tp_A b2 (tp_c l) → post (nI n) (nI M, 5, nI (2 ^ (n + 1) - 1), 0, 0, b1, b2, b3, b4, b5, a6, a7))
    (H0 : tp_G M (n + 1) l (tp_u du n d) = false → ∀ b1 b2 b3 b4 b5, tp_A b1 (tp_u du n d) → tp_A b2 (tp_c l) → post (-3) (nI M, 5, nI (2 ^ n - 1), fk, sk, b1, b2, b3, b4, b5, a6, a7)) :
    wpX_add post (nI M, 5, nI (2 ^ n - 1), fk, sk, a1, a2, a3, a4, a5, a6, a7) (nI d) := by
  have hln : l ≤ n := by
    rcases Nat.eq_zero_or_pos l with z | z
    · omega
    · have := hnl z
      omega
  unfold wpX_add
  unfold wpX_probe
  refine pk_lt d 1 (fun z => absurd z (by omega)) (fun _ => pk_le d 8 (fun _ => ?_) (fun z => absurd z (by omega)))
  refine tp_new hM hn hl hnl hd hd1 h1 h2 d1 d8 (fun hG b1 b2 b3 b4 b5 hb1 hb2 => ?_) (fun hG b1 b2 b3 b4 b5 hb1 hb2 => ?_)
  · refine br_f (nI_pos (by omega)) ?_
    unfold wpX_settle
    refine nm_r (tp_pu n hn) ⟨pk_in n 7 (by omega), nm_e ⟨pk_in n 7 (by omega), nm_e ?_⟩⟩
    refine H1 hG _ _ b3 b4 b5 (tp_Ae (tp_Au hb1 (tp_n8 d (by omega))) (fun j _ => ?_)) (tp_cn hb2 (nI_clamp (by omega)) hln rfl)
    rw [nI_clamp (by omega)]
    by_cases e : j = n
    · rw [e, tp_us, tp_us]
    · rw [tp_un e]
  · exact br_t (by decide) (H0 hG b1 b2 b3 b4 b5 hb1 hb2)
theorem tp_addB {post : Int32 → St2 → Prop} {u : St2} {x : Int32} (hx : x < 1 ∨ ¬ x ≤ 8) (H : post (-1) u) : wpX_add post u x := by
  obtain ⟨x1, x2, x3, x4, x5, y1, y2, y3, y4, y5, y6, y7⟩ := u
  unfold wpX_add
  unfold wpX_probe
  exact br_c (fun _ => br_t (by decide) H) (fun z => br_f (hx.resolve_left z) (br_t (by decide) H))
end
end
section
section
variable {m fk sk : Int32} {a1 a2 a3 a4 a5 a6 a7 : Nat → Int32}
/-- the span: the limits from L on, f of them -/
def tp_sp (M n l : Nat) (du : Nat → Nat) : Nat → Nat → Nat
  | 0, _ => 8
  | f + 1, L => if tp_G M n l (tp_mn L du) = true then L else tp_sp M n l du f (L + 1)
theorem tp_m8 {du : Nat → Nat} {L : Nat} (hd : ∀ j, j < 7 → du j ≤ 8) : ∀ j, j < 7 → tp_mn L du j ≤ 8 := by
  intro j hj
  have := hd j hj
  unfold tp_mn
  split <;> omega
theorem tp_m1 {du : Nat → Nat} {n L : Nat} (hd : ∀ j, j < n → 1 ≤ du j) (h : 1 ≤ L) : ∀ j, j < n → 1 ≤ tp_mn L du j := by
  intro j hj
  have := hd j hj
  unfold tp_mn
  split <;> omega
theorem tp_sp_in (M n l : Nat) (du : Nat → Nat) : ∀ f L, 1 ≤ L → L + f = 9 → 1 ≤ tp_sp M n l du f L ∧ tp_sp M n l du f L ≤ 8 := by
  intro f
  induction f with
  | zero => exact fun L _ _ => ⟨show 1 ≤ 8 by decide, show 8 ≤ 8 by decide⟩
  | succ f ih =>
    intro L h1 h9
    rw [tp_sp]
    split
    · omega
    · exact ih (L + 1) (by omega) (by omega)
theorem tp_sp11 {post : Int32 → St2 → Prop} {M n l : Nat} {du : Nat → Nat} (hM : M ≤ 2) (hn : n ≤ 4) (hl : l < 3) (hnl : 0 < l → 3 ≤ n) (hd : ∀ j, j < 7 → du j ≤ 8) (hd1 : ∀ j, j < n → 1 ≤ du j) (h1 : tp_A a1 du) (h2 : tp_A a2 (tp_c l)) :
    ∀ (f L : Nat) (b3 b4 b5 : Nat → Int32), L + f = 9 → 1 ≤ L → (∀ b3 b4 b5, post (nI (tp_sp M n l du f L)) (nI M, 5, nI (2 ^ n - 1), fk, sk, a1, a2, b3, b4, b5, a6, a7)) →
    wX_span_11 post (f + 1) (nI L) (nI M) 5 (nI (2 ^ n - 1)) fk sk a1 a2 b3 b4 b5 a6 a7 := by
  intro f
  induction f with
  | zero =>
    intro L b3 b4 b5 h9 _ H
    exact pk_lt 8 L (fun _ => H b3 b4 b5) (fun z => absurd z (by omega))
  | succ f ih =>
    intro L b3 b4 b5 h9 hL H
    refine pk_lt 8 L (fun z => absurd z (by omega)) (fun _ => ?_)
    refine tp_ask (by omega) hd h1 (fun b hb => ?_)
    refine tp_good hM hn hl hnl (tp_m8 hd) (tp_m1 hd1 hL) h2 hb (fun b3 b5 => ?_)
    rw [tp_sp] at H
    cases hG : tp_G M n l (tp_mn L du) with
    | false =>
      rw [hG, if_neg (by decide)] at H
      exact br_t rfl (nm_r (nI_1 L) (ih (L + 1) b3 b b5 (by omega) (by omega) H))
    | true =>
      rw [hG, if_pos rfl] at H
      exact br_f (by decide) (H b3 b b5)
theorem tp_span {post : Int32 → St2 → Prop} {M n l : Nat} {du : Nat → Nat} (hM : M ≤ 2) (hn : n ≤ 4) (hn1 : 1 ≤ n) (hl : l < 3) (hnl : 0 < l → 3 ≤ n) (hd : ∀ j, j < 7 → du j ≤ 8) (hd1 : ∀ j, j < n → 1 ≤ du j) (h1 : tp_A a1 du) (h2 : tp_A a2 (tp_c l))
    (H : ∀ b3 b4 b5, post (nI (tp_sp M n l du 8 1)) (nI M, 5, nI (2 ^ n - 1), fk, sk, a1, a2, b3, b4, b5, a6, a7)) :
    wpX_span post (nI M, 5, nI (2 ^ n - 1), fk, sk, a1, a2, a3, a4, a5, a6, a7) := by
  have p16 := tp_p16 hn
  have p2 : 2 ^ 1 ≤ 2 ^ n := Nat.pow_le_pow_right (by omega) hn1
  exact br_f (nI_ne0 (by omega) (by omega)) ⟨9, tp_sp11 hM hn hl hnl hd hd1 h1 h2 8 1 a3 a4 a5 (by omega) (by omega) H⟩
/-- the deadline of task i drawn in: the tries from d on, f of them -/
def tp_dn (M n l : Nat) (k : Nat → Nat) (i : Nat) : Nat → Nat → Nat
  | 0, _ => k i
  | f + 1, d => if k i ≤ d then k i else if tp_G M n l (tp_u k i d) = true then d else tp_dn M n l k i f (d + 1)
theorem tp_dn_in (M n l : Nat) (k : Nat → Nat) (i : Nat) (k1 : 1 ≤ k i) (k8 : k i ≤ 8) : ∀ f d, 1 ≤ d → 1 ≤ tp_dn M n l k i f d ∧ tp_dn M n l k i f d ≤ 8 := by
  intro f
  induction f with
  | zero => exact fun d _ => ⟨k1, k8⟩
  | succ f ih =>
    intro d h1
    rw [tp_dn]
    split
    · exact ⟨k1, k8⟩
    · split
      · omega
      · exact ih (d + 1) (by omega)
/-- the tasks' deadlines drawn in one behind another, from task i on -/
def tp_kr (M n l : Nat) : Nat → Nat → (Nat → Nat) → (Nat → Nat)
  | 0, _, k => k
  | f + 1, i, k => if i < n then tp_fo (tp_dn M n l k i 8 1) (fun v => tp_kr M n l f (i + 1) (tp_u k i v)) else tp_kr M n l f (i + 1) k
theorem tp_di12 {post : Int32 → St2 → Prop} {M n l i : Nat} {k : Nat → Nat} (hM : M ≤ 2) (hn : n ≤ 4) (hl : l < 3) (hnl : 0 < l → 3 ≤ n) (hk8 : ∀ j, j < 7 → k j ≤ 8) (hk1 : ∀ j, j < n → 1 ≤ k j) (hi : i < n) (h2 : tp_A a2 (tp_c l)) :
    ∀ (f d : Nat) (b3 b4 b5 : Nat → Int32), d + f = 9 → 1 ≤ d → (∀ j, j < 7 → j ≠ i → b4 j = nI (k j)) →
    (∀ b3 b4 b5, tp_A b4 (tp_u k i (tp_dn M n l k i f d)) → post (nI (tp_dn M n l k i f d - 1)) (nI M, 5, nI (2 ^ n - 1), fk, sk, a1, a2, b3, b4, b5, a6, a7)) →
    wX_drawIn_12 post (nI i) (nI (k i)) (f + 2) 0 (nI d) (nI M) 5 (nI (2 ^ n - 1)) fk sk a1 a2 b3 b4 b5 a6 a7 := by
  have ki8 := hk8 i (by omega)
  have ki1 := hk1 i hi
  have U : ∀ (b4 : Nat → Int32) (v : Nat), (∀ j, j < 7 → j ≠ i → b4 j = nI (k j)) → tp_A (upd b4 i (nI v)) (tp_u k i v) := by
    intro b4 v hb j hj
    by_cases e : j = i
    · rw [e, pk_us, tp_us]
    · rw [pk_un e, tp_un e]
      exact hb j hj e
  have E0 : ∀ (b3 b4 b5 : Nat → Int32), (∀ j, j < 7 → j ≠ i → b4 j = nI (k j)) → (∀ b3 b4 b5, tp_A b4 (tp_u k i (k i)) → post (nI (k i - 1)) (nI M, 5, nI (2 ^ n - 1), fk, sk, a1, a2, b3, b4, b5, a6, a7)) →
      wX_drawIn_42 post (nI i) (nI (k i)) 0 (nI M) 5 (nI (2 ^ n - 1)) fk sk a1 a2 b3 b4 b5 a6 a7 := by
    intro b3 b4 b5 hb H
    refine br_t rfl ⟨pk_in i 7 (by omega), nm_r (e' := upd b4 i (nI (k i))) (by rw [nI_clamp (by omega), tp_n8 (k i) (by omega)]) ⟨pk_in i 7 (by omega), ?_⟩⟩
    have e : upd b4 i (nI (k i)) (nI i).toNatClampNeg - 1 = nI (k i - 1) := by
      rw [nI_clamp (by omega), pk_us]
      exact pk_sub (b := 1) ki1
    rw [e]
    exact H b3 _ b5 (U b4 (k i) hb)
  intro f
  induction f with
  | zero =>
    intro d b3 b4 b5 h9 hd hb H
    exact pk_le (k i) d (fun _ => E0 b3 b4 b5 hb H) (fun z => absurd z (by omega))
  | succ f ih =>
    intro d b3 b4 b5 h9 hd hb H
    rw [tp_dn] at H
    by_cases g : k i ≤ d
    · rw [if_pos g] at H
      exact pk_le (k i) d (fun _ => E0 b3 b4 b5 hb H) (fun z => absurd z (by omega))
    · rw [if_neg g] at H
      refine pk_le (k i) d (fun z => absurd z g) (fun _ => br_t rfl ⟨pk_in i 7 (by omega), nm_r (e' := upd b4 i (nI d)) (by rw [nI_clamp (by omega), tp_n8 d (by omega)]) ?_⟩)
      have h4 : tp_A (upd b4 i (nI d)) (tp_u k i d) := U b4 d hb
      refine tp_good_2 hM hn hl hnl (tp_u8 hk8 (by omega)) (tp_u1 hk1 hd) h2 h4 (fun c3 c5 => ?_)
      refine nm_r (nI_1 d) ?_
      cases hG : tp_G M n l (tp_u k i d) with
      | false =>
        rw [hG, if_neg (by decide)] at H
        refine ih (d + 1) c3 _ c5 (by omega) (by omega) (fun j hj e => ?_) H
        rw [pk_un e]
        exact hb j hj e
      | true =>
        rw [hG, if_pos rfl] at H
        have E1 : wX_drawIn_42 post (nI i) (nI (k i)) 1 (nI M) 5 (nI (2 ^ n - 1)) fk sk a1 a2 c3 (upd b4 i (nI d)) c5 a6 a7 := by
          refine br_f (by decide) ⟨pk_in i 7 (by omega), ?_⟩
          have e : upd b4 i (nI d) (nI i).toNatClampNeg - 1 = nI (d - 1) := by
            rw [nI_clamp (by omega), pk_us]
            exact pk_sub (b := 1) hd
          rw [e]
          exact H c3 _ c5 h4
        exact br_c (fun _ => E1) (fun _ => br_f (by decide) E1)
theorem tp_di {post : Int32 → St2 → Prop} {M n l i : Nat} {k : Nat → Nat} (hM : M ≤ 2) (hn : n ≤ 4) (hl : l < 3) (hnl : 0 < l → 3 ≤ n) (hk8 : ∀ j, j < 7 → k j ≤ 8) (hk1 : ∀ j, j < n → 1 ≤ k j) (hi : i < n) (h2 : tp_A a2 (tp_c l)) (h4 : tp_A a4 k)
    (H : ∀ b3 b4 b5, tp_A b4 (tp_u k i (tp_dn M n l k i 8 1)) → post (nI (tp_dn M n l k i 8 1 - 1)) (nI M, 5, nI (2 ^ n - 1), fk, sk, a1, a2, b3, b4, b5, a6, a7)) :
    wpX_drawIn post (nI M, 5, nI (2 ^ n - 1), fk, sk, a1, a2, a3, a4, a5, a6, a7) (nI i) :=
  ⟨pk_in i 7 (by omega), nm_r (e' := nI (k i)) (by rw [nI_clamp (by omega), h4 i (by omega)]) ⟨10, tp_di12 hM hn hl hnl hk8 hk1 hi h2 8 1 a3 a4 a5 (by omega) (by omega) (fun j hj _ => h4 j hj) H⟩⟩
theorem tp_di12_2 {post : Int32 → St2 → Prop} {M n l i : Nat} {k : Nat → Nat} (hM : M ≤ 2) (hn : n ≤ 4) (hl : l < 3) (hnl : 0 < l → 3 ≤ n) (hk8 : ∀ j, j < 7 → k j ≤ 8) (hk1 : ∀ j, j < n → 1 ≤ k j) (hi : i < n) (h2 : tp_A a2 (tp_c l)) :
    ∀ (f d : Nat) (b3 b4 b5 : Nat → Int32), d + f = 9 → 1 ≤ d → (∀ j, j < 7 → j ≠ i → b4 j = nI (k j)) →
    (∀ b3 b4 b5, tp_A b4 (tp_u k i (tp_dn M n l k i f d)) → post (nI (tp_dn M n l k i f d - 1)) (nI M, 5, nI (2 ^ n - 1), fk, sk, a1, a2, b3, b4, b5, a6, a7)) →
    wX_drawIn_2_12 post (nI i) (nI (k i)) (f + 2) 0 (nI d) (nI M) 5 (nI (2 ^ n - 1)) fk sk a1 a2 b3 b4 b5 a6 a7 := by
  have ki8 := hk8 i (by omega)
  have ki1 := hk1 i hi
  have U : ∀ (b4 : Nat → Int32) (v : Nat), (∀ j, j < 7 → j ≠ i → b4 j = nI (k j)) → tp_A (upd b4 i (nI v)) (tp_u k i v) := by
    intro b4 v hb j hj
    by_cases e : j = i
    · rw [e, pk_us, tp_us]
    · rw [pk_un e, tp_un e]
      exact hb j hj e
  have E0 : ∀ (b3 b4 b5 : Nat → Int32), (∀ j, j < 7 → j ≠ i → b4 j = nI (k j)) → (∀ b3 b4 b5, tp_A b4 (tp_u k i (k i)) → post (nI (k i - 1)) (nI M, 5, nI (2 ^ n - 1), fk, sk, a1, a2, b3, b4, b5, a6, a7)) →
      wX_drawIn_2_42 post (nI i) (nI (k i)) 0 (nI M) 5 (nI (2 ^ n - 1)) fk sk a1 a2 b3 b4 b5 a6 a7 := by
    intro b3 b4 b5 hb H
    refine br_t rfl ⟨pk_in i 7 (by omega), nm_r (e' := upd b4 i (nI (k i))) (by rw [nI_clamp (by omega), tp_n8 (k i) (by omega)]) ⟨pk_in i 7 (by omega), ?_⟩⟩
    have e : upd b4 i (nI (k i)) (nI i).toNatClampNeg - 1 = nI (k i - 1) := by
      rw [nI_clamp (by omega), pk_us]
      exact pk_sub (b := 1) ki1
    rw [e]
    exact H b3 _ b5 (U b4 (k i) hb)
  intro f
  induction f with
  | zero =>
    intro d b3 b4 b5 h9 hd hb H
    exact pk_le (k i) d (fun _ => E0 b3 b4 b5 hb H) (fun z => absurd z (by omega))
  | succ f ih =>
    intro d b3 b4 b5 h9 hd hb H
    rw [tp_dn] at H
    by_cases g : k i ≤ d
    · rw [if_pos g] at H
      exact pk_le (k i) d (fun _ => E0 b3 b4 b5 hb H) (fun z => absurd z (by omega))
    · rw [if_neg g] at H
      refine pk_le (k i) d (fun z => absurd z g) (fun _ => br_t rfl ⟨pk_in i 7 (by omega), nm_r (e' := upd b4 i (nI d)) (by rw [nI_clamp (by omega), tp_n8 d (by omega)]) ?_⟩)
      have h4 : tp_A (upd b4 i (nI d)) (tp_u k i d) := U b4 d hb
      refine tp_good_3 hM hn hl hnl (tp_u8 hk8 (by omega)) (tp_u1 hk1 hd) h2 h4 (fun c3 c5 => ?_)
      refine nm_r (nI_1 d) ?_
      cases hG : tp_G M n l (tp_u k i d) with
      | false =>
        rw [hG, if_neg (by decide)] at H
        refine ih (d + 1) c3 _ c5 (by omega) (by omega) (fun j hj e => ?_) H
        rw [pk_un e]
        exact hb j hj e
      | true =>
        rw [hG, if_pos rfl] at H
        have E1 : wX_drawIn_2_42 post (nI i) (nI (k i)) 1 (nI M) 5 (nI (2 ^ n - 1)) fk sk a1 a2 c3 (upd b4 i (nI d)) c5 a6 a7 := by
          refine br_f (by decide) ⟨pk_in i 7 (by omega), ?_⟩
          have e : upd b4 i (nI d) (nI i).toNatClampNeg - 1 = nI (d - 1) := by
            rw [nI_clamp (by omega), pk_us]
            exact pk_sub (b := 1) hd
          rw [e]
          exact H c3 _ c5 h4
        exact br_c (fun _ => E1) (fun _ => br_f (by decide) E1)
theorem tp_di_2 {post : Int32 → St2 → Prop} {M n l i : Nat} {k : Nat → Nat} (hM : M ≤ 2) (hn : n ≤ 4) (hl : l < 3) (hnl : 0 < l → 3 ≤ n) (hk8 : ∀ j, j < 7 → k j ≤ 8) (hk1 : ∀ j, j < n → 1 ≤ k j) (hi : i < n) (h2 : tp_A a2 (tp_c l)) (h4 : tp_A a4 k)
    (H : ∀ b3 b4 b5, tp_A b4 (tp_u k i (tp_dn M n l k i 8 1)) → post (nI (tp_dn M n l k i 8 1 - 1)) (nI M, 5, nI (2 ^ n - 1), fk, sk, a1, a2, b3, b4, b5, a6, a7)) :
    wpX_drawIn_2 post (nI M, 5, nI (2 ^ n - 1), fk, sk, a1, a2, a3, a4, a5, a6, a7) (nI i) :=
  ⟨pk_in i 7 (by omega), nm_r (e' := nI (k i)) (by rw [nI_clamp (by omega), h4 i (by omega)]) ⟨10, tp_di12_2 hM hn hl hnl hk8 hk1 hi h2 8 1 a3 a4 a5 (by omega) (by omega) (fun j hj _ => h4 j hj) H⟩⟩
theorem tp_slot_w {post : Int32 → St2 → Prop} {M n l i : Nat} (hM : M ≤ 2) (hn : n ≤ 4) (hl : l < 3) (hnl : 0 < l → 3 ≤ n) (hi : i < n) (h2 : tp_A a2 (tp_c l)) :
    ∀ (f j : Nat) (k : Nat → Nat) (b3 b4 b5 s : Nat → Int32), j + f = 5 → (∀ j, j < 7 → k j ≤ 8) → (∀ j, j < n → 1 ≤ k j) → tp_A b4 k → (∀ q, q < j → q < n → s q = nI (k q - 1)) →
    (∀ b3 b4 b5 s, (∀ q, q < n → s q = nI (tp_kr M n l f j k q - 1)) → post (s i) (nI M, 5, nI (2 ^ n - 1), fk, sk, a1, a2, b3, b4, b5, s, a7)) →
    wX_slotOf_30 post (nI i) (f + 1) (nI j) (nI M) 5 (nI (2 ^ n - 1)) fk sk a1 a2 b3 b4 b5 s a7 := by
  intro f
  induction f with
  | zero =>
    intro j k b3 b4 b5 s h5 hk8 hk1 h4 hs H
    refine pk_le 5 j (fun _ => ⟨pk_in i 7 (by omega), ?_⟩) (fun z => absurd z (by omega))
    rw [nI_clamp (by omega)]
    exact H b3 b4 b5 s (fun q hq => hs q (by omega) hq)
  | succ f ih =>
    intro j k b3 b4 b5 s h5 hk8 hk1 h4 hs H
    refine pk_le 5 j (fun z => absurd z (by omega)) (fun _ => ?_)
    rw [tp_kr] at H
    by_cases g : j < n
    · rw [if_pos g, tp_fo_eq] at H
      obtain ⟨v1, v8⟩ := tp_dn_in M n l k j (hk1 j g) (hk8 j (by omega)) 8 1 (by omega)
      refine tp_holds_t hn g (br_f (by decide) ?_)
      refine tp_di hM hn hl hnl hk8 hk1 g h2 h4 (fun c3 c4 c5 hc4 => ?_)
      refine ⟨pk_in j 7 (by omega), nm_r (e' := upd s j (nI (tp_dn M n l k j 8 1 - 1))) (by rw [nI_clamp (by omega), tp_n8 _ (by omega)]) (nm_r (nI_1 j) ?_)⟩
      refine ih (j + 1) _ c3 c4 c5 _ (by omega) (tp_u8 hk8 v8) (tp_u1 hk1 v1) hc4 (fun q hq hqn => ?_) H
      by_cases e : q = j
      · rw [e, pk_us, tp_us]
      · rw [pk_un e, tp_un e]
        exact hs q (by omega) hqn
    · rw [if_neg g] at H
      refine tp_holds_f hn (by omega) (by omega) (br_t rfl (nm_r (nI_1 j) ?_))
      exact ih (j + 1) k b3 b4 b5 s (by omega) hk8 hk1 h4 (fun q hq hqn => hs q (by omega) hqn) H
theorem tp_short_w {post : Int32 → St2 → Prop} {M n l i : Nat} (hM : M ≤ 2) (hn : n ≤ 4) (hl : l < 3) (hnl : 0 < l → 3 ≤ n) (hi : i < n) (h2 : tp_A a2 (tp_c l)) :
    ∀ (f j : Nat) (k : Nat → Nat) (b3 b4 b5 s : Nat → Int32), j + f = 5 → (∀ j, j < 7 → k j ≤ 8) → (∀ j, j < n → 1 ≤ k j) → tp_A b4 k → (∀ q, q < j → q < n → s q = nI (k q - 1)) →
    (∀ b3 b4 b5 s, (∀ q, q < n → s q = nI (tp_kr M n l f j k q - 1)) → post (s i) (nI M, 5, nI (2 ^ n - 1), fk, sk, a1, a2, b3, b4, b5, a6, s)) →
    wX_shortSlotOf_34 post (nI i) (f + 1) (nI j) (nI M) 5 (nI (2 ^ n - 1)) fk sk a1 a2 b3 b4 b5 a6 s := by
  intro f
  induction f with
  | zero =>
    intro j k b3 b4 b5 s h5 hk8 hk1 h4 hs H
    refine pk_le 5 j (fun _ => ⟨pk_in i 7 (by omega), ?_⟩) (fun z => absurd z (by omega))
    rw [nI_clamp (by omega)]
    exact H b3 b4 b5 s (fun q hq => hs q (by omega) hq)
  | succ f ih =>
    intro j k b3 b4 b5 s h5 hk8 hk1 h4 hs H
    refine pk_le 5 j (fun z => absurd z (by omega)) (fun _ => ?_)
    rw [tp_kr] at H
    by_cases g : j < n
    · rw [if_pos g, tp_fo_eq] at H
      obtain ⟨v1, v8⟩ := tp_dn_in M n l k j (hk1 j g) (hk8 j (by omega)) 8 1 (by omega)
      refine tp_holds_t hn g (br_f (by decide) ?_)
      refine tp_di_2 hM hn hl hnl hk8 hk1 g h2 h4 (fun c3 c4 c5 hc4 => ?_)
      refine ⟨pk_in j 7 (by omega), nm_r (e' := upd s j (nI (tp_dn M n l k j 8 1 - 1))) (by rw [nI_clamp (by omega), tp_n8 _ (by omega)]) (nm_r (nI_1 j) ?_)⟩
      refine ih (j + 1) _ c3 c4 c5 _ (by omega) (tp_u8 hk8 v8) (tp_u1 hk1 v1) hc4 (fun q hq hqn => ?_) H
      by_cases e : q = j
      · rw [e, pk_us, tp_us]
      · rw [pk_un e, tp_un e]
        exact hs q (by omega) hqn
    · rw [if_neg g] at H
      refine tp_holds_f hn (by omega) (by omega) (br_t rfl (nm_r (nI_1 j) ?_))
      exact ih (j + 1) k b3 b4 b5 s (by omega) hk8 hk1 h4 (fun q hq hqn => hs q (by omega) hqn) H
theorem tp_slot {post : Int32 → St2 → Prop} {M n l i : Nat} {du : Nat → Nat} (hM : M ≤ 2) (hn : n ≤ 4) (hl : l < 3) (hnl : 0 < l → 3 ≤ n) (hi : i < n) (hd : ∀ j, j < 7 → du j ≤ 8) (hd1 : ∀ j, j < n → 1 ≤ du j) (h1 : tp_A a1 du) (h2 : tp_A a2 (tp_c l))
    (H : ∀ b3 b4 b5 s, (∀ q, q < n → s q = nI (tp_kr M n l 5 0 du q - 1)) → post (s i) (nI M, 5, nI (2 ^ n - 1), 1, sk, a1, a2, b3, b4, b5, s, a7)) :
    wpX_slotOf post (nI M, 5, nI (2 ^ n - 1), 0, sk, a1, a2, a3, a4, a5, a6, a7) (nI i) := by
  unfold wpX_slotOf
  refine tp_holds_t hn hi ?_
  refine br_f (by decide) (br_t rfl ?_)
  refine tp_ask8 hd h1 (fun b hb => ?_)
  exact ⟨6, tp_slot_w hM hn hl hnl hi h2 5 0 du a3 b a5 a6 (by omega) hd hd1 hb (fun q hq => absurd hq (by omega)) H⟩
theorem tp_slot1 {post : Int32 → St2 → Prop} {n i : Nat} (hn : n ≤ 4) (hi : i < n) (H : post (a6 i) (m, 5, nI (2 ^ n - 1), 1, sk, a1, a2, a3, a4, a5, a6, a7)) :
    wpX_slotOf post (m, 5, nI (2 ^ n - 1), 1, sk, a1, a2, a3, a4, a5, a6, a7) (nI i) := by
  unfold wpX_slotOf
  refine tp_holds_t hn hi ?_
  refine br_f (by decide) (br_f (by decide) ⟨pk_in i 7 (by omega), ?_⟩)
  rw [nI_clamp (by omega)]
  exact H
theorem tp_slot0 {post : Int32 → St2 → Prop} {n i : Nat} (hn : n ≤ 4) (hi : n ≤ i) (h5 : i < 5) (H : post (-1) (m, 5, nI (2 ^ n - 1), fk, sk, a1, a2, a3, a4, a5, a6, a7)) :
    wpX_slotOf post (m, 5, nI (2 ^ n - 1), fk, sk, a1, a2, a3, a4, a5, a6, a7) (nI i) := by
  unfold wpX_slotOf
  exact tp_holds_f hn hi h5 (br_t rfl H)
theorem tp_short {post : Int32 → St2 → Prop} {M n l i : Nat} {du : Nat → Nat} (hM : M ≤ 2) (hn : n ≤ 4) (hl : l < 3) (hnl : 0 < l → 3 ≤ n) (hi : i < n) (hd : ∀ j, j < 7 → du j ≤ 8) (hd1 : ∀ j, j < n → 1 ≤ du j) (h1 : tp_A a1 du) (h2 : tp_A a2 (tp_c l))
    (H : ∀ b3 b4 b5 s, (∀ q, q < n → s q = nI (tp_kr M n l 5 0 (tp_mn (tp_sp M n l du 8 1) du) q - 1)) → post (s i) (nI M, 5, nI (2 ^ n - 1), fk, 1, a1, a2, b3, b4, b5, a6, s)) :
    wpX_shortSlotOf post (nI M, 5, nI (2 ^ n - 1), fk, 0, a1, a2, a3, a4, a5, a6, a7) (nI i) := by
  unfold wpX_shortSlotOf
  obtain ⟨s1, s8⟩ := tp_sp_in M n l du 8 1 (by omega) (by omega)
  refine tp_holds_t hn hi ?_
  refine br_f (by decide) (br_t rfl ?_)
  refine tp_span hM hn (by omega) hl hnl hd hd1 h1 h2 (fun b3 b4 b5 => ?_)
  refine tp_ask s8 hd h1 (fun b hb => ?_)
  exact ⟨6, tp_short_w hM hn hl hnl hi h2 5 0 _ b3 b b5 a7 (by omega) (tp_m8 hd) (tp_m1 hd1 s1) hb (fun q hq => absurd hq (by omega)) H⟩
theorem tp_short0 {post : Int32 → St2 → Prop} {n i : Nat} (hn : n ≤ 4) (hi : n ≤ i) (h5 : i < 5) (H : post (-1) (m, 5, nI (2 ^ n - 1), fk, sk, a1, a2, a3, a4, a5, a6, a7)) :
    wpX_shortSlotOf post (m, 5, nI (2 ^ n - 1), fk, sk, a1, a2, a3, a4, a5, a6, a7) (nI i) := by
  unfold wpX_shortSlotOf
  exact tp_holds_f hn hi h5 (br_t rfl H)
end
end
section
def tp_k409 (x5 x6 x7 x8 x9 x10 x11 x12 x13 x14 x15 x16 x20 x21 x22 x23 x24 x25 : Int32) : Bool := (if x5 = 0 then (if x6 = 0 then (if x7 = (-4) then (if x8 = x16 then (if x9 = x20 then (if x10 = x21 then (if x11 = x22 then (if x12 = x23 then (if x13 = x24 then (if x14 = x25 then (if x15 = x25 then true else false) else false) else false) else false) else false) else false) else false) else false) else false) else false) else false)
theorem tp_t409 {post : Int32 → St0 → Prop} {mc ms kc ks : Nat} {x5 x6 x7 x8 x9 x10 x11 x12 x13 x14 x15 x16 x20 x21 x22 x23 x24 x25 : Int32} (hp : post 1 ()) (h : tp_k409 x5 x6 x7 x8 x9 x10 x11 x12 x13 x14 x15 x16 x20 x21 x22 x23 x24 x25 = true) : wL_lawOf_409 post mc ms x5 x6 x7 x8 x9 x10 x11 x12 x13 x14 x15 x16 x20 x21 x22 x23 x24 x25 kc ks := by
  unfold tp_k409 at h
  refine br_c (fun g => ?_) (fun g => ?_)
  · rw [if_pos g] at h
    refine br_c (fun g => ?_) (fun g => ?_)
    · rw [if_pos g] at h
      refine br_c (fun g => ?_) (fun g => ?_)
      · rw [if_pos g] at h
        refine br_c (fun g => ?_) (fun g => ?_)
        · rw [if_pos g] at h
          refine br_c (fun g => ?_) (fun g => ?_)
          · rw [if_pos g] at h
            refine br_c (fun g => ?_) (fun g => ?_)
            · rw [if_pos g] at h
              refine br_c (fun g => ?_) (fun g => ?_)
              · rw [if_pos g] at h
                refine br_c (fun g => ?_) (fun g => ?_)
                · rw [if_pos g] at h
                  refine br_c (fun g => ?_) (fun g => ?_)
                  · rw [if_pos g] at h
                    refine br_c (fun g => ?_) (fun g => ?_)
                    · rw [if_pos g] at h
                      refine br_c (fun g => ?_) (fun g => ?_)
                      · rw [if_pos g] at h
                        exact hp
                      · rw [if_neg g] at h
                        exact absurd h (by decide)
                    · rw [if_neg g] at h
                      exact absurd h (by decide)
                  · rw [if_neg g] at h
                    exact absurd h (by decide)
                · rw [if_neg g] at h
                  exact absurd h (by decide)
              · rw [if_neg g] at h
                exact absurd h (by decide)
            · rw [if_neg g] at h
              exact absurd h (by decide)
          · rw [if_neg g] at h
            exact absurd h (by decide)
        · rw [if_neg g] at h
          exact absurd h (by decide)
      · rw [if_neg g] at h
        exact absurd h (by decide)
    · rw [if_neg g] at h
      exact absurd h (by decide)
  · rw [if_neg g] at h
    exact absurd h (by decide)
def tp_k399 (x2 x5 x6 x7 x8 x9 x10 x11 x12 x13 x14 x15 x16 x20 x21 x22 z0 : Int32) : Bool := (tp_k409 x5 x6 x7 x8 x9 x10 x11 x12 x13 x14 x15 x16 x20 x21 x22 z0 3 (x2 - 1))
theorem tp_t399 {post : Int32 → St0 → Prop} {mc ms kc ks : Nat} {x2 x5 x6 x7 x8 x9 x10 x11 x12 x13 x14 x15 x16 x20 x21 x22 z0 : Int32} (hp : post 1 ()) (h : tp_k399 x2 x5 x6 x7 x8 x9 x10 x11 x12 x13 x14 x15 x16 x20 x21 x22 z0 = true) : wL_lawOf_399 post mc ms x2 x5 x6 x7 x8 x9 x10 x11 x12 x13 x14 x15 x16 x20 x21 x22 z0 kc ks := by
  unfold tp_k399 at h
  refine nm_e ?_
  exact tp_t409 hp h
def tp_k387 (x2 x5 x6 x7 x8 x9 x10 x11 x12 x13 x14 x15 x16 x20 x21 z0 : Int32) : Bool := (if 2 < x2 then (tp_k399 x2 x5 x6 x7 x8 x9 x10 x11 x12 x13 x14 x15 x16 x20 x21 z0 1) else (tp_k399 x2 x5 x6 x7 x8 x9 x10 x11 x12 x13 x14 x15 x16 x20 x21 z0 2))
theorem tp_t387 {post : Int32 → St0 → Prop} {mc ms kc ks : Nat} {x2 x5 x6 x7 x8 x9 x10 x11 x12 x13 x14 x15 x16 x20 x21 z0 : Int32} (hp : post 1 ()) (h : tp_k387 x2 x5 x6 x7 x8 x9 x10 x11 x12 x13 x14 x15 x16 x20 x21 z0 = true) : wL_lawOf_387 post mc ms x2 x5 x6 x7 x8 x9 x10 x11 x12 x13 x14 x15 x16 x20 x21 z0 kc ks := by
  unfold tp_k387 at h
  refine br_c (fun g => ?_) (fun g => ?_)
  · rw [if_pos g] at h
    exact tp_t399 hp h
  · rw [if_neg g] at h
    exact tp_t399 hp h
def tp_k362 (x2 x4 x5 x6 x7 x8 x9 x10 x11 x12 x13 x14 x15 x16 x19 x20 x21 x22 x23 x24 x25 : Int32) : Bool := (if x19 = 0 then (tp_k409 x5 x6 x7 x8 x9 x10 x11 x12 x13 x14 x15 x16 x20 x21 x22 x23 x24 x25) else (if x4 = 0 then (if 3 < x2 then (tp_k409 x5 x6 x7 x8 x9 x10 x11 x12 x13 x14 x15 x16 x20 x21 x22 x23 x24 x25) else (if x2 = 1 then (tp_k387 x2 x5 x6 x7 x8 x9 x10 x11 x12 x13 x14 x15 x16 x20 x21 1) else (tp_k387 x2 x5 x6 x7 x8 x9 x10 x11 x12 x13 x14 x15 x16 x20 x21 0))) else (tp_k409 x5 x6 x7 x8 x9 x10 x11 x12 x13 x14 x15 x16 x20 x21 x22 x23 x24 x25)))
theorem tp_t362 {post : Int32 → St0 → Prop} {mc ms kc ks : Nat} {x2 x4 x5 x6 x7 x8 x9 x10 x11 x12 x13 x14 x15 x16 x19 x20 x21 x22 x23 x24 x25 : Int32} (hp : post 1 ()) (h : tp_k362 x2 x4 x5 x6 x7 x8 x9 x10 x11 x12 x13 x14 x15 x16 x19 x20 x21 x22 x23 x24 x25 = true) : wL_lawOf_362 post mc ms x2 x4 x5 x6 x7 x8 x9 x10 x11 x12 x13 x14 x15 x16 x19 x20 x21 x22 x23 x24 x25 kc ks := by
  unfold tp_k362 at h
  refine br_c (fun g => ?_) (fun g => ?_)
  · rw [if_pos g] at h
    exact tp_t409 hp h
  · rw [if_neg g] at h
    refine br_c (fun g => ?_) (fun g => ?_)
    · rw [if_pos g] at h
      refine br_c (fun g => ?_) (fun g => ?_)
      · rw [if_pos g] at h
        exact tp_t409 hp h
      · rw [if_neg g] at h
        refine br_c (fun g => ?_) (fun g => ?_)
        · rw [if_pos g] at h
          exact tp_t387 hp h
        · rw [if_neg g] at h
          exact tp_t387 hp h
    · rw [if_neg g] at h
      exact tp_t409 hp h
def tp_k336 (x2 x4 x5 x6 x7 x8 x9 x10 x11 x12 x13 x14 x15 x16 x19 x20 x21 x22 x23 x24 z0 : Int32) : Bool := (if x19 = 0 then (tp_k362 x2 x4 x5 x6 x7 x8 x9 x10 x11 x12 x13 x14 x15 x16 x19 x20 x21 x22 x23 x24 z0) else (if x4 = 0 then (tp_k362 x2 x4 x5 x6 x7 x8 x9 x10 x11 x12 x13 x14 x15 x16 x19 x20 x21 x22 x23 x24 z0) else (if x2 = 1 then (tp_k362 x2 x4 x5 x6 x7 x8 x9 x10 x11 x12 x13 x14 x15 x16 x19 x20 x21 x22 1 2 0) else (tp_k362 x2 x4 x5 x6 x7 x8 x9 x10 x11 x12 x13 x14 x15 x16 x19 x20 x21 x22 x23 x24 z0))))
theorem tp_t336 {post : Int32 → St0 → Prop} {mc ms kc ks : Nat} {x2 x4 x5 x6 x7 x8 x9 x10 x11 x12 x13 x14 x15 x16 x19 x20 x21 x22 x23 x24 z0 : Int32} (hp : post 1 ()) (h : tp_k336 x2 x4 x5 x6 x7 x8 x9 x10 x11 x12 x13 x14 x15 x16 x19 x20 x21 x22 x23 x24 z0 = true) : wL_lawOf_336 post mc ms x2 x4 x5 x6 x7 x8 x9 x10 x11 x12 x13 x14 x15 x16 x19 x20 x21 x22 x23 x24 z0 kc ks := by
  unfold tp_k336 at h
  refine br_c (fun g => ?_) (fun g => ?_)
  · rw [if_pos g] at h
    exact tp_t362 hp h
  · rw [if_neg g] at h
    refine br_c (fun g => ?_) (fun g => ?_)
    · rw [if_pos g] at h
      exact tp_t362 hp h
    · rw [if_neg g] at h
      refine br_c (fun g => ?_) (fun g => ?_)
      · rw [if_pos g] at h
        exact tp_t362 hp h
      · rw [if_neg g] at h
        exact tp_t362 hp h
def tp_k315 (x2 x4 x5 x6 x7 x8 x9 x10 x11 x12 x13 x14 x15 x16 x19 x20 x21 x22 x23 z0 : Int32) : Bool := (if x19 = 0 then (tp_k336 x2 x4 x5 x6 x7 x8 x9 x10 x11 x12 x13 x14 x15 x16 x19 x20 x21 x22 x23 z0 (-1)) else (if x4 = 0 then (tp_k336 x2 x4 x5 x6 x7 x8 x9 x10 x11 x12 x13 x14 x15 x16 x19 x20 x21 x22 x23 z0 3) else (tp_k336 x2 x4 x5 x6 x7 x8 x9 x10 x11 x12 x13 x14 x15 x16 x19 x20 x21 x22 x23 z0 1)))
theorem tp_t315 {post : Int32 → St0 → Prop} {mc ms kc ks : Nat} {x2 x4 x5 x6 x7 x8 x9 x10 x11 x12 x13 x14 x15 x16 x19 x20 x21 x22 x23 z0 : Int32} (hp : post 1 ()) (h : tp_k315 x2 x4 x5 x6 x7 x8 x9 x10 x11 x12 x13 x14 x15 x16 x19 x20 x21 x22 x23 z0 = true) : wL_lawOf_315 post mc ms x2 x4 x5 x6 x7 x8 x9 x10 x11 x12 x13 x14 x15 x16 x19 x20 x21 x22 x23 z0 kc ks := by
  unfold tp_k315 at h
  refine br_c (fun g => ?_) (fun g => ?_)
  · rw [if_pos g] at h
    exact tp_t336 hp h
  · rw [if_neg g] at h
    refine br_c (fun g => ?_) (fun g => ?_)
    · rw [if_pos g] at h
      exact tp_t336 hp h
    · rw [if_neg g] at h
      exact tp_t336 hp h
def tp_k303 (x2 x4 x5 x6 x7 x8 x9 x10 x11 x12 x13 x14 x15 x16 x19 x20 x21 x22 z0 : Int32) : Bool := (if x4 = 0 then (tp_k315 x2 x4 x5 x6 x7 x8 x9 x10 x11 x12 x13 x14 x15 x16 x19 x20 x21 x22 z0 2) else (tp_k315 x2 x4 x5 x6 x7 x8 x9 x10 x11 x12 x13 x14 x15 x16 x19 x20 x21 x22 z0 1))
theorem tp_t303 {post : Int32 → St0 → Prop} {mc ms kc ks : Nat} {x2 x4 x5 x6 x7 x8 x9 x10 x11 x12 x13 x14 x15 x16 x19 x20 x21 x22 z0 : Int32} (hp : post 1 ()) (h : tp_k303 x2 x4 x5 x6 x7 x8 x9 x10 x11 x12 x13 x14 x15 x16 x19 x20 x21 x22 z0 = true) : wL_lawOf_303 post mc ms x2 x4 x5 x6 x7 x8 x9 x10 x11 x12 x13 x14 x15 x16 x19 x20 x21 x22 z0 kc ks := by
  unfold tp_k303 at h
  refine br_c (fun g => ?_) (fun g => ?_)
  · rw [if_pos g] at h
    exact tp_t315 hp h
  · rw [if_neg g] at h
    exact tp_t315 hp h
def tp_k288 (x2 x4 x5 x6 x7 x8 x9 x10 x11 x12 x13 x14 x15 x16 x19 x20 z0 : Int32) : Bool := (if x4 = 0 then (tp_k303 x2 x4 x5 x6 x7 x8 x9 x10 x11 x12 x13 x14 x15 x16 x19 x20 z0 0 1) else (tp_k303 x2 x4 x5 x6 x7 x8 x9 x10 x11 x12 x13 x14 x15 x16 x19 x20 z0 0 0))
theorem tp_t288 {post : Int32 → St0 → Prop} {mc ms kc ks : Nat} {x2 x4 x5 x6 x7 x8 x9 x10 x11 x12 x13 x14 x15 x16 x19 x20 z0 : Int32} (hp : post 1 ()) (h : tp_k288 x2 x4 x5 x6 x7 x8 x9 x10 x11 x12 x13 x14 x15 x16 x19 x20 z0 = true) : wL_lawOf_288 post mc ms x2 x4 x5 x6 x7 x8 x9 x10 x11 x12 x13 x14 x15 x16 x19 x20 z0 kc ks := by
  unfold tp_k288 at h
  refine br_c (fun g => ?_) (fun g => ?_)
  · rw [if_pos g] at h
    exact tp_t303 hp h
  · rw [if_neg g] at h
    exact tp_t303 hp h
def tp_k274 (x2 x4 x5 x6 x7 x8 x9 x10 x11 x12 x13 x14 x15 x16 x19 x20 : Int32) : Bool := (tp_k288 x2 x4 x5 x6 x7 x8 x9 x10 x11 x12 x13 x14 x15 x16 x19 x20 2)
theorem tp_t274 {post : Int32 → St0 → Prop} {mc ms kc ks : Nat} {x2 x4 x5 x6 x7 x8 x9 x10 x11 x12 x13 x14 x15 x16 x19 x20 : Int32} (hp : post 1 ()) (h : tp_k274 x2 x4 x5 x6 x7 x8 x9 x10 x11 x12 x13 x14 x15 x16 x19 x20 = true) : wL_lawOf_274 post mc ms x2 x4 x5 x6 x7 x8 x9 x10 x11 x12 x13 x14 x15 x16 x19 x20 kc ks := by
  unfold tp_k274 at h
  exact tp_t288 hp h
def tp_k253 (x2 x4 x5 x6 x7 x8 x9 x10 x11 x12 x13 x14 x15 x16 x19 z0 : Int32) : Bool := (if x4 = 0 then (if x19 = 0 then (tp_k288 x2 x4 x5 x6 x7 x8 x9 x10 x11 x12 x13 x14 x15 x16 x19 z0 3) else (tp_k288 x2 x4 x5 x6 x7 x8 x9 x10 x11 x12 x13 x14 x15 x16 x19 z0 4)) else (if x19 = 0 then (tp_k274 x2 x4 x5 x6 x7 x8 x9 x10 x11 x12 x13 x14 x15 x16 x19 z0) else (if x2 = 1 then (tp_k288 x2 x4 x5 x6 x7 x8 x9 x10 x11 x12 x13 x14 x15 x16 x19 z0 3) else (tp_k274 x2 x4 x5 x6 x7 x8 x9 x10 x11 x12 x13 x14 x15 x16 x19 z0))))
theorem tp_t253 {post : Int32 → St0 → Prop} {mc ms kc ks : Nat} {x2 x4 x5 x6 x7 x8 x9 x10 x11 x12 x13 x14 x15 x16 x19 z0 : Int32} (hp : post 1 ()) (h : tp_k253 x2 x4 x5 x6 x7 x8 x9 x10 x11 x12 x13 x14 x15 x16 x19 z0 = true) : wL_lawOf_253 post mc ms x2 x4 x5 x6 x7 x8 x9 x10 x11 x12 x13 x14 x15 x16 x19 z0 kc ks := by
  unfold tp_k253 at h
  refine br_c (fun g => ?_) (fun g => ?_)
  · rw [if_pos g] at h
    refine br_c (fun g => ?_) (fun g => ?_)
    · rw [if_pos g] at h
      exact tp_t288 hp h
    · rw [if_neg g] at h
      exact tp_t288 hp h
  · rw [if_neg g] at h
    refine br_c (fun g => ?_) (fun g => ?_)
    · rw [if_pos g] at h
      exact tp_t274 hp h
    · rw [if_neg g] at h
      refine br_c (fun g => ?_) (fun g => ?_)
      · rw [if_pos g] at h
        exact tp_t288 hp h
      · rw [if_neg g] at h
        exact tp_t274 hp h
def tp_k231 (x2 x4 x5 x6 x7 x8 x9 x10 x11 x12 x13 x14 x15 x16 x18 z0 : Int32) : Bool := (if x18 = 0 then (tp_k253 x2 x4 x5 x6 x7 x8 x9 x10 x11 x12 x13 x14 x15 x16 z0 (-1)) else (if z0 = 0 then (tp_k253 x2 x4 x5 x6 x7 x8 x9 x10 x11 x12 x13 x14 x15 x16 z0 (-3)) else (tp_k253 x2 x4 x5 x6 x7 x8 x9 x10 x11 x12 x13 x14 x15 x16 z0 3)))
theorem tp_t231 {post : Int32 → St0 → Prop} {mc ms kc ks : Nat} {x2 x4 x5 x6 x7 x8 x9 x10 x11 x12 x13 x14 x15 x16 x18 z0 : Int32} (hp : post 1 ()) (h : tp_k231 x2 x4 x5 x6 x7 x8 x9 x10 x11 x12 x13 x14 x15 x16 x18 z0 = true) : wL_lawOf_231 post mc ms x2 x4 x5 x6 x7 x8 x9 x10 x11 x12 x13 x14 x15 x16 x18 z0 kc ks := by
  unfold tp_k231 at h
  refine br_c (fun g => ?_) (fun g => ?_)
  · rw [if_pos g] at h
    exact tp_t253 hp h
  · rw [if_neg g] at h
    refine br_c (fun g => ?_) (fun g => ?_)
    · rw [if_pos g] at h
      exact tp_t253 hp h
    · rw [if_neg g] at h
      exact tp_t253 hp h
def tp_k230 (x2 x4 x5 x6 x7 x8 x9 x10 x11 x12 x13 x14 x15 x16 x18 : Int32) : Bool := (tp_k231 x2 x4 x5 x6 x7 x8 x9 x10 x11 x12 x13 x14 x15 x16 x18 0)
theorem tp_t230 {post : Int32 → St0 → Prop} {mc ms kc ks : Nat} {x2 x4 x5 x6 x7 x8 x9 x10 x11 x12 x13 x14 x15 x16 x18 : Int32} (hp : post 1 ()) (h : tp_k230 x2 x4 x5 x6 x7 x8 x9 x10 x11 x12 x13 x14 x15 x16 x18 = true) : wL_lawOf_230 post mc ms x2 x4 x5 x6 x7 x8 x9 x10 x11 x12 x13 x14 x15 x16 x18 kc ks := by
  unfold tp_k230 at h
  exact tp_t231 hp h
def tp_k226 (x2 x4 x5 x6 x7 x8 x9 x10 x11 x12 x13 x14 x15 x16 x18 : Int32) : Bool := (tp_k231 x2 x4 x5 x6 x7 x8 x9 x10 x11 x12 x13 x14 x15 x16 x18 1)
theorem tp_t226 {post : Int32 → St0 → Prop} {mc ms kc ks : Nat} {x2 x4 x5 x6 x7 x8 x9 x10 x11 x12 x13 x14 x15 x16 x18 : Int32} (hp : post 1 ()) (h : tp_k226 x2 x4 x5 x6 x7 x8 x9 x10 x11 x12 x13 x14 x15 x16 x18 = true) : wL_lawOf_226 post mc ms x2 x4 x5 x6 x7 x8 x9 x10 x11 x12 x13 x14 x15 x16 x18 kc ks := by
  unfold tp_k226 at h
  exact tp_t231 hp h
def tp_k189 (x2 x4 x5 x6 x7 x8 x9 x10 x11 x12 x13 x14 x15 x16 x17 z0 : Int32) : Bool := (if z0 = 0 then (tp_k230 x2 x4 x5 x6 x7 x8 x9 x10 x11 x12 x13 x14 x15 x16 z0) else (if x4 = 0 then (if 4 ≤ x2 then (tp_k226 x2 x4 x5 x6 x7 x8 x9 x10 x11 x12 x13 x14 x15 x16 z0) else (if x17 < 4 then (tp_k230 x2 x4 x5 x6 x7 x8 x9 x10 x11 x12 x13 x14 x15 x16 z0) else (tp_k226 x2 x4 x5 x6 x7 x8 x9 x10 x11 x12 x13 x14 x15 x16 z0))) else (if 2 ≤ x2 then (tp_k226 x2 x4 x5 x6 x7 x8 x9 x10 x11 x12 x13 x14 x15 x16 z0) else (if x17 < 3 then (tp_k230 x2 x4 x5 x6 x7 x8 x9 x10 x11 x12 x13 x14 x15 x16 z0) else (tp_k226 x2 x4 x5 x6 x7 x8 x9 x10 x11 x12 x13 x14 x15 x16 z0)))))
theorem tp_t189 {post : Int32 → St0 → Prop} {mc ms kc ks : Nat} {x2 x4 x5 x6 x7 x8 x9 x10 x11 x12 x13 x14 x15 x16 x17 z0 : Int32} (hp : post 1 ()) (h : tp_k189 x2 x4 x5 x6 x7 x8 x9 x10 x11 x12 x13 x14 x15 x16 x17 z0 = true) : wL_lawOf_189 post mc ms x2 x4 x5 x6 x7 x8 x9 x10 x11 x12 x13 x14 x15 x16 x17 z0 kc ks := by
  unfold tp_k189 at h
  refine br_c (fun g => ?_) (fun g => ?_)
  · rw [if_pos g] at h
    exact tp_t230 hp h
  · rw [if_neg g] at h
    refine br_c (fun g => ?_) (fun g => ?_)
    · rw [if_pos g] at h
      refine br_c (fun g => ?_) (fun g => ?_)
      · rw [if_pos g] at h
        exact tp_t226 hp h
      · rw [if_neg g] at h
        refine br_c (fun g => ?_) (fun g => ?_)
        · rw [if_pos g] at h
          exact tp_t230 hp h
        · rw [if_neg g] at h
          exact tp_t226 hp h
    · rw [if_neg g] at h
      refine br_c (fun g => ?_) (fun g => ?_)
      · rw [if_pos g] at h
        exact tp_t226 hp h
      · rw [if_neg g] at h
        refine br_c (fun g => ?_) (fun g => ?_)
        · rw [if_pos g] at h
          exact tp_t230 hp h
        · rw [if_neg g] at h
          exact tp_t226 hp h
def tp_k188 (x2 x4 x5 x6 x7 x8 x9 x10 x11 x12 x13 x14 x15 x16 x17 : Int32) : Bool := (tp_k189 x2 x4 x5 x6 x7 x8 x9 x10 x11 x12 x13 x14 x15 x16 x17 0)
theorem tp_t188 {post : Int32 → St0 → Prop} {mc ms kc ks : Nat} {x2 x4 x5 x6 x7 x8 x9 x10 x11 x12 x13 x14 x15 x16 x17 : Int32} (hp : post 1 ()) (h : tp_k188 x2 x4 x5 x6 x7 x8 x9 x10 x11 x12 x13 x14 x15 x16 x17 = true) : wL_lawOf_188 post mc ms x2 x4 x5 x6 x7 x8 x9 x10 x11 x12 x13 x14 x15 x16 x17 kc ks := by
  unfold tp_k188 at h
  exact tp_t189 hp h
def tp_k171 (x2 x4 x5 x6 x7 x8 x9 x10 x11 x12 x13 x14 x15 x16 z0 : Int32) : Bool := (if x2 < 1 then (tp_k188 x2 x4 x5 x6 x7 x8 x9 x10 x11 x12 x13 x14 x15 x16 z0) else (if 8 < x2 then (tp_k188 x2 x4 x5 x6 x7 x8 x9 x10 x11 x12 x13 x14 x15 x16 z0) else (tp_k189 x2 x4 x5 x6 x7 x8 x9 x10 x11 x12 x13 x14 x15 x16 z0 1)))
theorem tp_t171 {post : Int32 → St0 → Prop} {mc ms kc ks : Nat} {x2 x4 x5 x6 x7 x8 x9 x10 x11 x12 x13 x14 x15 x16 z0 : Int32} (hp : post 1 ()) (h : tp_k171 x2 x4 x5 x6 x7 x8 x9 x10 x11 x12 x13 x14 x15 x16 z0 = true) : wL_lawOf_171 post mc ms x2 x4 x5 x6 x7 x8 x9 x10 x11 x12 x13 x14 x15 x16 z0 kc ks := by
  unfold tp_k171 at h
  refine br_c (fun g => ?_) (fun g => ?_)
  · rw [if_pos g] at h
    exact tp_t188 hp h
  · rw [if_neg g] at h
    refine br_c (fun g => ?_) (fun g => ?_)
    · rw [if_pos g] at h
      exact tp_t188 hp h
    · rw [if_neg g] at h
      exact tp_t189 hp h
def tp_k158 (x1 x2 x4 x5 x6 x7 x8 x9 x10 x11 x12 x13 x14 x15 z0 : Int32) : Bool := (if z0 = 0 then (tp_k171 x2 x4 x5 x6 x7 x8 x9 x10 x11 x12 x13 x14 x15 z0 x1) else (tp_k171 x2 x4 x5 x6 x7 x8 x9 x10 x11 x12 x13 x14 x15 z0 8))
theorem tp_t158 {post : Int32 → St0 → Prop} {mc ms kc ks : Nat} {x1 x2 x4 x5 x6 x7 x8 x9 x10 x11 x12 x13 x14 x15 z0 : Int32} (hp : post 1 ()) (h : tp_k158 x1 x2 x4 x5 x6 x7 x8 x9 x10 x11 x12 x13 x14 x15 z0 = true) : wL_lawOf_158 post mc ms x1 x2 x4 x5 x6 x7 x8 x9 x10 x11 x12 x13 x14 x15 z0 kc ks := by
  unfold tp_k158 at h
  refine br_c (fun g => ?_) (fun g => ?_)
  · rw [if_pos g] at h
    exact tp_t171 hp h
  · rw [if_neg g] at h
    exact tp_t171 hp h
def tp_k134 (x1 x2 x4 x5 x6 x7 x8 x9 x10 x11 x12 x13 x14 x15 : Int32) : Bool := (tp_k158 x1 x2 x4 x5 x6 x7 x8 x9 x10 x11 x12 x13 x14 x15 (-1))
theorem tp_t134 {post : Int32 → St0 → Prop} {mc ms kc ks : Nat} {x1 x2 x4 x5 x6 x7 x8 x9 x10 x11 x12 x13 x14 x15 : Int32} (hp : post 1 ()) (h : tp_k134 x1 x2 x4 x5 x6 x7 x8 x9 x10 x11 x12 x13 x14 x15 = true) : wL_lawOf_134 post mc ms x1 x2 x4 x5 x6 x7 x8 x9 x10 x11 x12 x13 x14 x15 kc ks := by
  unfold tp_k134 at h
  exact tp_t158 hp h
def tp_k149 (x1 x2 x4 x5 x6 x7 x8 x9 x10 x11 x12 x13 x14 x15 z0 z1 : Int32) : Bool := (if z0 ≤ z1 then (tp_k158 x1 x2 x4 x5 x6 x7 x8 x9 x10 x11 x12 x13 x14 x15 0) else (tp_k158 x1 x2 x4 x5 x6 x7 x8 x9 x10 x11 x12 x13 x14 x15 (-3)))
theorem tp_t149 {post : Int32 → St0 → Prop} {mc ms kc ks : Nat} {x1 x2 x4 x5 x6 x7 x8 x9 x10 x11 x12 x13 x14 x15 z0 z1 : Int32} (hp : post 1 ()) (h : tp_k149 x1 x2 x4 x5 x6 x7 x8 x9 x10 x11 x12 x13 x14 x15 z0 z1 = true) : wL_lawOf_149 post mc ms x1 x2 x4 x5 x6 x7 x8 x9 x10 x11 x12 x13 x14 x15 z0 z1 kc ks := by
  unfold tp_k149 at h
  refine br_c (fun g => ?_) (fun g => ?_)
  · rw [if_pos g] at h
    exact tp_t158 hp h
  · rw [if_neg g] at h
    exact tp_t158 hp h
/-- the law's answer out of what the calls answered -/
def tp_ktop (x1 x2 z0 x5 x6 x7 x8 x9 x10 x11 x12 x13 x14 x15 : Int32) : Bool := if x1 < 1 then tp_k134 x1 x2 z0 x5 x6 x7 x8 x9 x10 x11 x12 x13 x14 x15 else if x1 ≤ 8 then (if z0 = 0 then tp_k149 x1 x2 z0 x5 x6 x7 x8 x9 x10 x11 x12 x13 x14 x15 3 x1 else tp_k149 x1 x2 z0 x5 x6 x7 x8 x9 x10 x11 x12 x13 x14 x15 2 x1) else tp_k134 x1 x2 z0 x5 x6 x7 x8 x9 x10 x11 x12 x13 x14 x15
theorem tp_k188c (x2 y2 z0 x5 x6 x7 x8 x9 x10 x11 x12 x13 x14 x15 x16 x17 : Int32) : tp_k188 x2 z0 x5 x6 x7 x8 x9 x10 x11 x12 x13 x14 x15 x16 x17 = tp_k188 y2 z0 x5 x6 x7 x8 x9 x10 x11 x12 x13 x14 x15 x16 x17 := by
  simp [tp_k188, tp_k189, tp_k230, tp_k231, tp_k253, tp_k274, tp_k288, tp_k303, tp_k315, tp_k336, tp_k362]
theorem tp_k171c {x2 y2 : Int32} (h : x2 < 1 ∨ ¬ x2 ≤ 8) (h' : y2 < 1 ∨ ¬ y2 ≤ 8) (z0 x5 x6 x7 x8 x9 x10 x11 x12 x13 x14 x15 x16 x17 : Int32) : tp_k171 x2 z0 x5 x6 x7 x8 x9 x10 x11 x12 x13 x14 x15 x16 x17 = tp_k171 y2 z0 x5 x6 x7 x8 x9 x10 x11 x12 x13 x14 x15 x16 x17 := by
  have E : ∀ w : Int32, (w < 1 ∨ ¬ w ≤ 8) → tp_k171 w z0 x5 x6 x7 x8 x9 x10 x11 x12 x13 x14 x15 x16 x17 = tp_k188 w z0 x5 x6 x7 x8 x9 x10 x11 x12 x13 x14 x15 x16 x17 := by
    intro w hw
    unfold tp_k171
    by_cases g : w < 1
    · rw [if_pos g]
    · rw [if_neg g, if_pos (Int32.not_le.mp (hw.resolve_left g))]
  rw [E x2 h, E y2 h']
  exact tp_k188c x2 y2 z0 x5 x6 x7 x8 x9 x10 x11 x12 x13 x14 x15 x16 x17
theorem tp_kt2 {x2 y2 : Int32} (h : x2 < 1 ∨ ¬ x2 ≤ 8) (h' : y2 < 1 ∨ ¬ y2 ≤ 8) (x1 z0 x5 x6 x7 x8 x9 x10 x11 x12 x13 x14 x15 : Int32) : tp_ktop x1 x2 z0 x5 x6 x7 x8 x9 x10 x11 x12 x13 x14 x15 = tp_ktop x1 y2 z0 x5 x6 x7 x8 x9 x10 x11 x12 x13 x14 x15 := by
  simp only [tp_ktop, tp_k134, tp_k149, tp_k158, tp_k171c h h']
theorem tp_kt1 {x1 y1 : Int32} (h : x1 < 1 ∨ ¬ x1 ≤ 8) (h' : y1 < 1 ∨ ¬ y1 ≤ 8) (x2 z0 x5 x6 x7 x8 x9 x10 x11 x12 x13 x14 x15 : Int32) : tp_ktop x1 x2 z0 x5 x6 x7 x8 x9 x10 x11 x12 x13 x14 x15 = tp_ktop y1 x2 z0 x5 x6 x7 x8 x9 x10 x11 x12 x13 x14 x15 := by
  have E : ∀ w : Int32, (w < 1 ∨ ¬ w ≤ 8) → tp_ktop w x2 z0 x5 x6 x7 x8 x9 x10 x11 x12 x13 x14 x15 = tp_k171 x2 z0 x5 x6 x7 x8 x9 x10 x11 x12 x13 x14 x15 (-1) 8 := by
    intro w hw
    have e : tp_k134 w x2 z0 x5 x6 x7 x8 x9 x10 x11 x12 x13 x14 x15 = tp_k171 x2 z0 x5 x6 x7 x8 x9 x10 x11 x12 x13 x14 x15 (-1) 8 := by
      unfold tp_k134 tp_k158
      exact if_neg (by decide)
    unfold tp_ktop
    by_cases g : w < 1
    · rw [if_pos g, e]
    · rw [if_neg g, if_neg (hw.resolve_left g), e]
  rw [E x1 h, E y1 h']
end
section
/-- the deadlines of the law's tasks: 8, 8, x, y -/
def tp_q (x y : Nat) : Nat → Nat := fun j => if j < 2 then 8 else if j = 2 then x else if j = 3 then y else 0
/-- setDeadline(2, e): what the deadline is then, and the answer (xe: e, or 0 for a bad e) -/
def tp_sx (M xe : Nat) : Nat := if xe = 0 then 8 else if tp_G M 3 2 (tp_q xe 0) = true then xe else 8
def tp_sr (M xe : Nat) : Int32 := if xe = 0 then -1 else if tp_G M 3 2 (tp_q xe 0) = true then 0 else -3
/-- add(d): how many tasks there are then, and the answer -/
def tp_an (M x ye : Nat) : Nat := if ye = 0 then 3 else if tp_G M 4 2 (tp_q x ye) = true then 4 else 3
def tp_ar (M x ye : Nat) : Int32 := if ye = 0 then -1 else if tp_G M 4 2 (tp_q x ye) = true then 3 else -3
def tp_s3 (n : Nat) (v : Int32) : Int32 := if 3 < n then v else -1
def tp_fin (M xe ye x n : Nat) : Bool :=
  tp_fo (tp_sp M n 2 (tp_q x ye) 8 1) (fun L => tp_ktop (nI xe) (nI ye) (nI (M - 1)) 0 0 (-4) (tp_sr M xe) (tp_ar M x ye) (nI L)
    (nI (tp_kr M n 2 5 0 (tp_q x ye) 0 - 1)) (nI (tp_kr M n 2 5 0 (tp_q x ye) 1 - 1)) (nI (tp_kr M n 2 5 0 (tp_q x ye) 2 - 1)) (tp_s3 n (nI (tp_kr M n 2 5 0 (tp_q x ye) 3 - 1)))
    (tp_s3 n (nI (tp_kr M n 2 5 0 (tp_mn L (tp_q x ye)) 3 - 1))))
theorem tp_pure1 : ∀ xe, xe < 9 → ∀ ye, ye < 9 → tp_fo (tp_sx 1 xe) (fun x => tp_fo (tp_an 1 x ye) (fun n => tp_fin 1 xe ye x n)) = true := by decide +kernel
theorem tp_pure2 : ∀ xe, xe < 9 → ∀ ye, ye < 9 → tp_fo (tp_sx 2 xe) (fun x => tp_fo (tp_an 2 x ye) (fun n => tp_fin 2 xe ye x n)) = true := by decide +kernel
theorem tp_pure0 : tp_G 1 1 0 (tp_u (fun _ => 0) 0 8) = true ∧ tp_G 2 1 0 (tp_u (fun _ => 0) 0 8) = true := by decide +kernel
end
section
section
variable {m sk : Int32} {a1 a2 a3 a4 a5 a6 a7 : Nat → Int32}
theorem tp_uq2 (a b x : Nat) : tp_u (tp_q a b) 2 x = tp_q x b := by
  funext j
  unfold tp_u tp_q
  by_cases e : j = 2
  · rw [e]
    rfl
  · rw [if_neg e, if_neg e, if_neg e]
theorem tp_uq3 (a b y : Nat) : tp_u (tp_q a b) 3 y = tp_q a y := by
  funext j
  unfold tp_u tp_q
  by_cases e : j = 3
  · rw [e]
    rfl
  · rw [if_neg e, if_neg e, if_neg e]
theorem tp_uq0 : tp_u (tp_u (tp_u (fun _ => 0) 0 8) 1 8) 2 8 = tp_q 8 0 := by
  funext j
  unfold tp_u tp_q
  by_cases e2 : j = 2
  · rw [e2]
    rfl
  · rw [if_neg e2, if_neg e2]
    by_cases e1 : j = 1
    · rw [e1]
      rfl
    · rw [if_neg e1]
      by_cases e0 : j = 0
      · rw [e0]
        rfl
      · rw [if_neg e0, if_neg (by omega)]
        split <;> rfl
theorem tp_q8 {x y : Nat} (hx : x ≤ 8) (hy : y ≤ 8) : ∀ j, j < 7 → tp_q x y j ≤ 8 := by
  intro j _
  unfold tp_q
  split
  · omega
  · split
    · omega
    · split <;> omega
theorem tp_q1 {x y n : Nat} (hx : 1 ≤ x) (hn : n ≤ 3 ∨ (n ≤ 4 ∧ 1 ≤ y)) : ∀ j, j < n → 1 ≤ tp_q x y j := by
  intro j hj
  unfold tp_q
  split
  · omega
  · split
    · omega
    · split <;> omega
/-- what an int of the script says: xe in 1 .. 8, or 0 for a bad one -/
def tp_in8 (e : Int32) (xe : Nat) : Prop := xe ≤ 8 ∧ ((xe = 0 ∧ (e < 1 ∨ ¬ e ≤ 8)) ∨ (1 ≤ xe ∧ e = nI xe))
theorem tp_cls (e : Int32) : ∃ xe, tp_in8 e xe := by
  by_cases h : e < 1 ∨ ¬ e ≤ 8
  · exact ⟨0, by omega, Or.inl ⟨rfl, h⟩⟩
  · have h1 : ¬ e < 1 := fun z => h (Or.inl z)
    have h2 : e ≤ 8 := Decidable.not_not.mp (fun z => h (Or.inr z))
    have h0 : ¬ e < 0 := fun z => h1 (Int32.lt_trans z (by decide))
    obtain ⟨j, hj, ej⟩ := nI_of2 (M := 8) (n := 8) (by decide) h0 h2
    refine ⟨j, hj, Or.inr ⟨?_, ej⟩⟩
    rcases Nat.eq_zero_or_pos j with z | z
    · rw [ej, z] at h1
      exact absurd (by decide) h1
    · exact z
theorem tp_kcls {x1 x2 z0 x5 x6 x7 x8 x9 x10 x11 x12 x13 x14 x15 : Int32} {xe ye : Nat} (he : tp_in8 x1 xe) (hy : tp_in8 x2 ye) : tp_ktop x1 x2 z0 x5 x6 x7 x8 x9 x10 x11 x12 x13 x14 x15 = tp_ktop (nI xe) (nI ye) z0 x5 x6 x7 x8 x9 x10 x11 x12 x13 x14 x15 := by
  have b0 : nI 0 < 1 ∨ ¬ nI 0 ≤ 8 := Or.inl (by decide)
  have e1 : tp_ktop x1 x2 z0 x5 x6 x7 x8 x9 x10 x11 x12 x13 x14 x15 = tp_ktop (nI xe) x2 z0 x5 x6 x7 x8 x9 x10 x11 x12 x13 x14 x15 := by
    obtain ⟨_, ⟨z, hb⟩ | ⟨_, z⟩⟩ := he
    · rw [z]
      exact tp_kt1 hb b0 x2 z0 x5 x6 x7 x8 x9 x10 x11 x12 x13 x14 x15
    · rw [z]
  rw [e1]
  obtain ⟨_, ⟨z, hb⟩ | ⟨_, z⟩⟩ := hy
  · rw [z]
    exact tp_kt2 hb b0 (nI xe) z0 x5 x6 x7 x8 x9 x10 x11 x12 x13 x14 x15
  · rw [z]
theorem tp_ttop {post : Int32 → St0 → Prop} {mc ms kc ks : Nat} {x1 x2 z0 x5 x6 x7 x8 x9 x10 x11 x12 x13 x14 x15 : Int32} (hp : post 1 ()) (h : tp_ktop x1 x2 z0 x5 x6 x7 x8 x9 x10 x11 x12 x13 x14 x15 = true) :
    ((x1 < 1 → (wL_lawOf_134 post mc ms x1 x2 z0 x5 x6 x7 x8 x9 x10 x11 x12 x13 x14 x15 kc ks)) ∧ (¬ x1 < 1 → (((x1 ≤ 8 → (((z0 = 0 → (wL_lawOf_149 post mc ms x1 x2 z0 x5 x6 x7 x8 x9 x10 x11 x12 x13 x14 x15 3 x1 kc ks)) ∧ (¬ z0 = 0 → (wL_lawOf_149 post mc ms x1 x2 z0 x5 x6 x7 x8 x9 x10 x11 x12 x13 x14 x15 2 x1 kc ks))))) ∧ (¬ x1 ≤ 8 → (wL_lawOf_134 post mc ms x1 x2 z0 x5 x6 x7 x8 x9 x10 x11 x12 x13 x14 x15 kc ks)))))) := by
  unfold tp_ktop at h
  refine br_c (fun g => ?_) (fun g => ?_)
  · rw [if_pos g] at h
    exact tp_t134 hp h
  · rw [if_neg g] at h
    refine br_c (fun g => ?_) (fun g => ?_)
    · rw [if_pos g] at h
      refine br_c (fun g => ?_) (fun g => ?_)
      · rw [if_pos g] at h
        exact tp_t149 hp h
      · rw [if_neg g] at h
        exact tp_t149 hp h
    · rw [if_neg g] at h
      exact tp_t134 hp h
theorem tp_setAll {post : Int32 → St2 → Prop} {M xe : Nat} {e : Int32} (hM : M ≤ 2) (he : tp_in8 e xe) (h1 : tp_A a1 (tp_q 8 0)) (h2 : tp_A a2 (tp_c 2))
    (H : ∀ b1 b3 b4 b5, tp_A b1 (tp_q (tp_sx M xe) 0) → post (tp_sr M xe) (nI M, 5, nI (2 ^ 3 - 1), 0, 0, b1, a2, b3, b4, b5, a6, a7)) :
    wpX_setDeadline post (nI M, 5, nI (2 ^ 3 - 1), 0, 0, a1, a2, a3, a4, a5, a6, a7) (nI 2) e := by
  obtain ⟨x8, ⟨z, hb⟩ | ⟨x1, z⟩⟩ := he
  · have e1 : tp_sx M xe = 8 := if_pos z
    have e2 : tp_sr M xe = -1 := if_pos z
    rw [e1, e2] at H
    exact tp_setB (n := 3) (by omega) (by omega) hb (H a1 a3 a4 a5 h1)
  · have n0 : ¬ xe = 0 := by omega
    rw [z]
    refine tp_setD (n := 3) (l := 2) (du := tp_q 8 0) hM (by omega) (by omega) (by omega) (tp_q8 (by omega) (by omega)) (tp_q1 (by omega) (by omega)) h1 h2 x1 x8 (fun hG b1 b3 b4 b5 hb1 => ?_) (fun hG b1 b3 b4 b5 hb1 => ?_)
    · rw [tp_uq2] at hG hb1
      have e1 : tp_sx M xe = xe := by unfold tp_sx; rw [if_neg n0, if_pos hG]
      have e2 : tp_sr M xe = 0 := by unfold tp_sr; rw [if_neg n0, if_pos hG]
      rw [e1, e2] at H
      exact H b1 b3 b4 b5 hb1
    · rw [tp_uq2] at hG
      have e1 : tp_sx M xe = 8 := by unfold tp_sx; rw [if_neg n0, if_neg (by rw [hG]; decide)]
      have e2 : tp_sr M xe = -3 := by unfold tp_sr; rw [if_neg n0, if_neg (by rw [hG]; decide)]
      rw [e1, e2] at H
      exact H b1 b3 b4 b5 hb1
theorem tp_addAll {post : Int32 → St2 → Prop} {M x ye : Nat} {d : Int32} (hM : M ≤ 2) (x1 : 1 ≤ x) (x8 : x ≤ 8) (hd : tp_in8 d ye) (h1 : tp_A a1 (tp_q x 0)) (h2 : tp_A a2 (tp_c 2))
    (H : ∀ b1 b2 b3 b4 b5, tp_A b1 (tp_q x ye) → tp_A b2 (tp_c 2) → post (tp_ar M x ye) (nI M, 5, nI (2 ^ (tp_an M x ye) - 1), 0, 0, b1, b2, b3, b4, b5, a6, a7)) :
    wpX_add post (nI M, 5, nI (2 ^ 3 - 1), 0, 0, a1, a2, a3, a4, a5, a6, a7) d := by
  obtain ⟨y8, ⟨z, hb⟩ | ⟨y1, z⟩⟩ := hd
  · have e1 : tp_an M x ye = 3 := if_pos z
    have e2 : tp_ar M x ye = -1 := if_pos z
    rw [e1, e2, z] at H
    exact tp_addB hb (H a1 a2 a3 a4 a5 h1 h2)
  · have n0 : ¬ ye = 0 := by omega
    rw [z]
    refine tp_add (n := 3) (l := 2) (du := tp_q x 0) hM (by omega) (by omega) (by omega) (tp_q8 x8 (by omega)) (tp_q1 x1 (by omega)) h1 h2 y1 y8 (fun hG b1 b2 b3 b4 b5 hb1 hb2 => ?_) (fun hG b1 b2 b3 b4 b5 hb1 hb2 => ?_)
    · rw [tp_uq3] at hG hb1
      have e1 : tp_an M x ye = 4 := by unfold tp_an; rw [if_neg n0]; exact if_pos hG
      have e2 : tp_ar M x ye = 3 := by unfold tp_ar; rw [if_neg n0]; exact if_pos hG
      rw [e1, e2] at H
      exact H b1 b2 b3 b4 b5 hb1 hb2
    · rw [tp_uq3] at hG hb1
      have e1 : tp_an M x ye = 3 := by unfold tp_an; rw [if_neg n0]; exact if_neg (fun g => absurd (hG.symm.trans g) (by decide))
      have e2 : tp_ar M x ye = -3 := by unfold tp_ar; rw [if_neg n0]; exact if_neg (fun g => absurd (hG.symm.trans g) (by decide))
      rw [e1, e2] at H
      exact H b1 b2 b3 b4 b5 hb1 hb2
theorem tp_sx_in {M xe : Nat} (h : xe ≤ 8) : 1 ≤ tp_sx M xe ∧ tp_sx M xe ≤ 8 := by
  unfold tp_sx
  split
  · omega
  · split <;> omega
theorem tp_an_in {M x ye : Nat} : 3 ≤ tp_an M x ye ∧ (tp_an M x ye ≤ 3 ∨ (tp_an M x ye ≤ 4 ∧ 1 ≤ ye)) := by
  unfold tp_an
  split
  · omega
  · split <;> omega
theorem tp_slot3 {post : Int32 → St2 → Prop} {n : Nat} (hn : n ≤ 4) (hn3 : 3 ≤ n) (H : post (tp_s3 n (a6 3)) (m, 5, nI (2 ^ n - 1), 1, sk, a1, a2, a3, a4, a5, a6, a7)) :
    wpX_slotOf post (m, 5, nI (2 ^ n - 1), 1, sk, a1, a2, a3, a4, a5, a6, a7) (nI 3) := by
  unfold tp_s3 at H
  by_cases g : 3 < n
  · rw [if_pos g] at H
    exact tp_slot1 hn g H
  · rw [if_neg g] at H
    exact tp_slot0 hn (by omega) (by omega) H
theorem tp_short3 {post : Int32 → St2 → Prop} {fk : Int32} {M n l : Nat} {du : Nat → Nat} (hM : M ≤ 2) (hn : n ≤ 4) (hn3 : 3 ≤ n) (hl : l < 3) (hd : ∀ j, j < 7 → du j ≤ 8) (hd1 : ∀ j, j < n → 1 ≤ du j) (h1 : tp_A a1 du) (h2 : tp_A a2 (tp_c l))
    (H : ∀ sk b3 b4 b5 b7, post (tp_s3 n (nI (tp_kr M n l 5 0 (tp_mn (tp_sp M n l du 8 1) du) 3 - 1))) (nI M, 5, nI (2 ^ n - 1), fk, sk, a1, a2, b3, b4, b5, a6, b7)) :
    wpX_shortSlotOf post (nI M, 5, nI (2 ^ n - 1), fk, 0, a1, a2, a3, a4, a5, a6, a7) (nI 3) := by
  unfold tp_s3 at H
  by_cases g : 3 < n
  · rw [if_pos g] at H
    refine tp_short hM hn hl (fun _ => hn3) g hd hd1 h1 h2 (fun b3 b4 b5 s hs => ?_)
    rw [hs 3 g]
    exact H 1 b3 b4 b5 s
  · rw [if_neg g] at H
    exact tp_short0 hn (by omega) (by omega) (H 0 a3 a4 a5 a7)
theorem tp_pure {M xe ye : Nat} (hM : M = 1 ∨ M = 2) (hx : xe ≤ 8) (hy : ye ≤ 8) : tp_fin M xe ye (tp_sx M xe) (tp_an M (tp_sx M xe) ye) = true := by
  rcases hM with z | z
  · have := tp_pure1 xe (by omega) ye (by omega)
    rw [tp_fo_eq, tp_fo_eq] at this
    rw [z]
    exact this
  · have := tp_pure2 xe (by omega) ye (by omega)
    rw [tp_fo_eq, tp_fo_eq] at this
    rw [z]
    exact this
theorem tp_g1 : ∀ M, M < 3 → 0 < M → tp_G M 1 0 (tp_u (fun _ => 0) 0 8) = true := by decide +kernel
theorem tp_g2 : ∀ M, M < 3 → 0 < M → tp_G M 2 0 (tp_u (tp_u (fun _ => 0) 0 8) 1 8) = true := by decide +kernel
theorem tp_g3 : ∀ M, M < 3 → 0 < M → tp_G M 3 0 (tp_u (tp_u (tp_u (fun _ => 0) 0 8) 1 8) 2 8) = true := by decide +kernel
theorem tp_g4 : ∀ M, M < 3 → 0 < M → tp_G M 3 1 (tp_q 8 0) = true := by decide +kernel
theorem tp_g5 : ∀ M, M < 3 → 0 < M → tp_G M 3 2 (tp_q 8 0) = true := by decide +kernel
theorem tp_20 {post : Int32 → St0 → Prop} {mc ms kc ks M : Nat} {x1 x2 : Int32} (hM : M = 1 ∨ M = 2) (hp : post 1 ()) :
    wL_lawOf_20 post mc ms x1 x2 (nI (M - 1)) kc ks (nI M) 5 (nI (2 ^ 0 - 1)) 0 0 (fun _ => 0) (fun _ => 0) (fun _ => 0) (fun _ => 0) (fun _ => 0) (fun _ => 0) (fun _ => 0) := by
  have M2 : M ≤ 2 := by omega
  have M3 : M < 3 := by omega
  have M0 : 0 < M := by omega
  obtain ⟨xe, he⟩ := tp_cls x1
  obtain ⟨ye, hy⟩ := tp_cls x2
  obtain ⟨sx1, sx8⟩ := tp_sx_in (M := M) he.1
  obtain ⟨n3, hn'⟩ := tp_an_in (M := M) (x := tp_sx M xe) (ye := ye)
  have n4 : tp_an M (tp_sx M xe) ye ≤ 4 := by omega
  have F := tp_pure hM he.1 hy.1
  unfold tp_fin at F
  rw [tp_fo_eq, ← tp_kcls he hy] at F
  unfold wL_lawOf_20
  refine tp_add (n := 0) (l := 0) (d := 8) (du := fun _ => 0) M2 (by omega) (by omega) (fun z => absurd z (by omega)) (fun _ _ => by omega) (fun j hj => absurd hj (by omega)) (fun _ _ => rfl) (fun _ _ => rfl) (by omega) (by omega) (fun _ b1 b2 b3 b4 b5 h1 h2 => ?_) (fun hG => absurd hG (by rw [tp_g1 M M3 M0]; decide))
  refine tp_add (n := 1) (l := 0) (d := 8) M2 (by omega) (by omega) (fun z => absurd z (by omega)) (tp_u8 (fun _ _ => by omega) (by omega)) (tp_un1 (fun j hj => absurd hj (by omega)) (by omega)) h1 h2 (by omega) (by omega) (fun _ b1 b2 b3 b4 b5 h1 h2 => ?_) (fun hG => absurd hG (by rw [tp_g2 M M3 M0]; decide))
  refine tp_add (n := 2) (l := 0) (d := 8) M2 (by omega) (by omega) (fun z => absurd z (by omega)) (tp_u8 (tp_u8 (fun _ _ => by omega) (by omega)) (by omega)) (tp_un1 (tp_un1 (fun j hj => absurd hj (by omega)) (by omega)) (by omega)) h1 h2 (by omega) (by omega) (fun _ b1 b2 b3 b4 b5 h1 h2 => ?_) (fun hG => absurd hG (by rw [tp_g3 M M3 M0]; decide))
  rw [tp_uq0] at h1
  refine tp_link (n := 3) (l := 0) M2 (by omega) (by omega) (by omega) (tp_q8 (by omega) (by omega)) (tp_q1 (by omega) (by omega)) h1 h2 (tp_g4 M M3 M0) (fun b2 b3 b4 b5 h2 => ?_)
  refine tp_link (n := 3) (l := 1) M2 (by omega) (by omega) (by omega) (tp_q8 (by omega) (by omega)) (tp_q1 (by omega) (by omega)) h1 h2 (tp_g5 M M3 M0) (fun b2 b3 b4 b5 h2 => ?_)
  refine tp_cyc (n := 3) (by omega) (by omega) h2 (fun b3 => ?_)
  refine tp_setAll M2 he h1 h2 (fun b1 b3 b4 b5 h1 => ?_)
  refine tp_addAll M2 sx1 sx8 hy h1 h2 (fun b1 b2 b3 b4 b5 h1 h2 => ?_)
  have q8 := tp_q8 (x := tp_sx M xe) (y := ye) sx8 hy.1
  have q1 := tp_q1 (x := tp_sx M xe) (y := ye) sx1 hn'
  refine tp_span M2 n4 (by omega) (by omega) (fun _ => n3) q8 q1 h1 h2 (fun b3 b4 b5 => ?_)
  refine tp_slot (i := 0) M2 n4 (by omega) (fun _ => n3) (by omega) q8 q1 h1 h2 (fun b3 b4 b5 s hs => ?_)
  refine tp_slot1 (i := 1) n4 (by omega) ?_
  refine tp_slot1 (i := 2) n4 (by omega) ?_
  refine tp_slot3 n4 n3 ?_
  refine tp_short3 M2 n4 n3 (by omega) q8 q1 h1 h2 (fun sk b3 b4 b5 b7 => ?_)
  refine tp_ttop hp ?_
  have e3 : tp_s3 (tp_an M (tp_sx M xe) ye) (s 3) = tp_s3 (tp_an M (tp_sx M xe) ye) (nI (tp_kr M (tp_an M (tp_sx M xe) ye) 2 5 0 (tp_q (tp_sx M xe) ye) 3 - 1)) := by
    unfold tp_s3
    by_cases g : 3 < tp_an M (tp_sx M xe) ye
    · rw [if_pos g, if_pos g, hs 3 g]
    · rw [if_neg g, if_neg g]
  rw [e3, hs 0 (by omega), hs 1 (by omega), hs 2 (by omega)]
  exact F
theorem tp_lawOf {post : Int32 → St0 → Prop} {p0 p1 p2 : Int32} (hp : post 1 ()) : wpL_lawOf post 28 448 () p0 p1 p2 := by
  refine ⟨by omega, by omega, 7, 49, by omega, by omega, ?_⟩
  have K : ∀ M : Nat, (M = 1 ∨ M = 2) → (p0 < 2 → M = 1) → (¬ p0 < 2 → M = 2) → ∀ z : Int32, z = nI M →
      wX_init_80 (fun u => match u with | (fm0_machines_5, fm0_capacity_6, fm0_present_7, fm0_firstKnown_8, fm0_shortKnown_9, am61_12, am62_15, am63_18, am64_21, am65_24, am66_27, am67_30) => (((p0 < 2 → (wL_lawOf_20 post 28 448 p1 p2 0 (1 + 7) (12 + 49) fm0_machines_5 fm0_capacity_6 fm0_present_7 fm0_firstKnown_8 fm0_shortKnown_9 am61_12 am62_15 am63_18 am64_21 am65_24 am66_27 am67_30)) ∧ (¬ p0 < 2 → (wL_lawOf_20 post 28 448 p1 p2 1 (1 + 7) (12 + 49) fm0_machines_5 fm0_capacity_6 fm0_present_7 fm0_firstKnown_8 fm0_shortKnown_9 am61_12 am62_15 am63_18 am64_21 am65_24 am66_27 am67_30))))) 7 49 5 z 7 49 0 0 0 0 0 (fun _ => 0) (fun _ => 0) (fun _ => 0) (fun _ => 0) (fun _ => 0) (fun _ => 0) (fun _ => 0) := by
    intro M hM k1 k2 z ez
    rw [ez]
    refine br_t (by decide) (br_t (by decide) (br_c (fun g => ?_) (fun g => ?_)))
    · rw [k1 g]
      exact tp_20 (M := 1) (Or.inl rfl) hp
    · rw [k2 g]
      exact tp_20 (M := 2) (Or.inr rfl) hp
  refine ⟨by omega, by omega, by omega, by omega, by omega, by omega, by omega, by omega, by omega, by omega, by omega, by omega, by omega, by omega, ?_⟩
  refine br_c (fun g => br_c (fun g2 => ?_) (fun g2 => ?_)) (fun g => ?_)
  · have h0 : ¬ p0 < 0 := Int32.not_lt.mpr (Int32.le_trans (by decide) g)
    obtain ⟨j, hj, ej⟩ := nI_of2 (M := 2) (n := 2) (by decide) h0 g2
    have hj' : j = 1 ∨ j = 2 := by
      rcases Nat.eq_zero_or_pos j with z | z
      · rw [ej, z] at g
        exact absurd g (by decide)
      · omega
    refine K j hj' (fun q => ?_) (fun q => ?_) p0 ej
    · rcases hj' with z | z
      · exact z
      · rw [ej, z] at q
        exact absurd q (by decide)
    · rcases hj' with z | z
      · rw [ej, z] at q
        exact absurd (by decide) q
      · exact z
  · exact K 2 (Or.inr rfl) (fun q => absurd (Int32.le_of_lt q) g2) (fun _ => rfl) 2 rfl
  · exact K 1 (Or.inl rfl) (fun _ => rfl) (fun q => absurd (Int32.lt_trans (Int32.not_le.mp g) (by decide)) q) 1 rfl
theorem tp_cell {post : Int32 → Prop} {L k : Nat} {xs : Nat → Int32} (hL : L ≤ 3) (hk : k < 3) (H : ∀ r, post r) : wpL_cellAt post L xs () (nI k) :=
  pk_le L k (fun _ => H 0) (fun z => ⟨pk_in k L z, H _⟩)
end
theorem i_vc (xs : Nat → Int32) (L : Nat) (hL : L ≤ 3) : wpL_law (fun r => r = 1) L xs := by
  unfold wpL_law
  exact tp_cell (k := 0) hL (by omega) (fun r1 => tp_cell (k := 1) hL (by omega) (fun r2 => tp_cell (k := 2) hL (by omega) (fun r3 => ⟨28, 448, by omega, by omega, tp_lawOf rfl⟩)))
end
