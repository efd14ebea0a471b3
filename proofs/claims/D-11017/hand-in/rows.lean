section
section
variable {f1 f2 f3 f4 f5 f6 f7 f8 f9 f10 f11 : Int32} {a1 a2 a3 a4 a5 a6 a7 a8 a9 a10 a11 a12 a13 a14 : Nat → Int32}
/-- a cell of the script: whatever it holds -/
theorem ba_cellAt {post : Int32 → Prop} {L : Nat} {xs : Nat → Int32} {p : Int32} (i : Nat) (hi : i < 5) (hL : L ≤ 5) (hp : p = nI i) (H : ∀ v, post v) : wpL_cellAt post L xs () p := by
  subst hp
  exact pk_le L i (fun _ => H _) (fun z => ⟨pk_in i L z, H _⟩)
/-- findLeaders, second loop: no jumps, nothing changes -/
theorem ba_fl31 {post : St2 → Prop} {c : Nat} (hc : c ≤ 24) (hk : ∀ j, j < c → a1 j < 9) (H : post (nI c, f2, f3, f4, f5, f6, f7, f8, f9, f10, f11, a1, a2, a3, a4, a5, a6, a7, a8, a9, a10, a11, a12, a13, a14)) : ∃ n, wX_findLeaders_31 post (nI c) f2 f3 f4 f5 f6 f7 f8 f9 f10 f11 n 0 a1 a2 a3 a4 a5 a6 a7 a8 a9 a10 a11 a12 a13 a14 :=
  pk_loop (σ := Unit) (fun n i _ => wX_findLeaders_31 post (nI c) f2 f3 f4 f5 f6 f7 f8 f9 f10 f11 n (nI i) a1 a2 a3 a4 a5 a6 a7 a8 a9 a10 a11 a12 a13 a14) (fun _ _ => True) c 0 () (by omega) trivial
    (fun n _ _ => pk_le c c (fun _ => H) (fun z => absurd z (by omega)))
    (fun n i _ hi _ hw => pk_le c i (fun z => absurd z (by omega)) (fun _ => ⟨pk_in i 24 (by omega), br_t (by rw [nI_clamp (by omega)]; exact hk i hi) (nm_r (nI_1 i) (hw () trivial))⟩))
/-- findLeaders: operation 0 alone leads -/
theorem ba_fl {post : St2 → Prop} {c : Nat} (hc : c ≤ 24) (hk : ∀ j, j < c → a1 j < 9)
    (H : ∀ a : Nat → Int32, a 0 = 1 → (∀ j, 0 < j → j < 25 → a j = 0) → post (nI c, f2, f3, f4, f5, f6, f7, f8, f9, f10, f11, a1, a2, a3, a4, a5, a, a7, a8, a9, a10, a11, a12, a13, a14)) : wpX_findLeaders post (nI c, f2, f3, f4, f5, f6, f7, f8, f9, f10, f11, a1, a2, a3, a4, a5, a6, a7, a8, a9, a10, a11, a12, a13, a14) :=
  pk_loop (fun n i s => wX_findLeaders_2 post (nI c) f2 f3 f4 f5 f6 f7 f8 f9 f10 f11 n (nI i) a1 a2 a3 a4 a5 s a7 a8 a9 a10 a11 a12 a13 a14) (fun i s => (0 < i → s 0 = 1) ∧ ∀ j, 0 < j → j < i → s j = 0) 25 0 a6 (by omega) ⟨fun h => absurd h (by omega), fun j _ h => absurd h (by omega)⟩
    (fun n s h => pk_lt 24 25 (fun _ => ba_fl31 hc hk (H s (h.1 (by omega)) h.2)) (fun z => absurd z (by omega)))
    (fun n i s hi h hw => pk_lt 24 i (fun z => absurd z (by omega)) (fun _ => pk_eq i 0
      (fun z => ⟨pk_in i 25 hi, nm_e (nm_r (nI_1 i) (hw _ (by
        subst z
        exact ⟨fun _ => pk_us, fun j h0 h1 => absurd h1 (by omega)⟩)))⟩)
      (fun z => ⟨pk_in i 25 hi, nm_e (nm_r (nI_1 i) (hw _ (by
        rw [nI_clamp (by omega)]
        refine ⟨fun _ => ?_, fun j h0 h1 => ?_⟩
        · rw [pk_un (by omega)]
          exact h.1 (by omega)
        · by_cases e : j = i
          · rw [e, pk_us]
          · rw [pk_un e]
            exact h.2 j h0 (by omega))))⟩)))
theorem ba_z {s : Nat → Int32} {i : Nat} (hi : i < 2 ^ 31) (h : ∀ j, j < i → s j = 0) : ∀ j, j < i + 1 → upd s (nI i).toNatClampNeg 0 j = 0 := by
  intro j hj
  rw [nI_clamp hi]
  by_cases e : j = i
  · rw [e, pk_us]
  · rw [pk_un e]
    exact h j (by omega)
/-- pack, first loop: words and stops are wiped -/
theorem ba_p19 {post : St2 → Prop}
    (H : ∀ b8 b9 : Nat → Int32, (∀ j, j < 72 → b8 j = 0) → (∀ j, j < 72 → b9 j = 0) → ∃ n, wX_pack_67 post n 0 f1 0 f3 (-1) f5 f6 0 0 f9 f10 f11 a1 a2 a3 a4 a5 a6 a7 b8 b9 a10 a11 a12 a13 a14) : ∃ n, wX_pack_19 post f1 f2 f3 f4 f5 f6 f7 f8 f9 f10 f11 n 0 a1 a2 a3 a4 a5 a6 a7 a8 a9 a10 a11 a12 a13 a14 :=
  pk_loop (σ := (Nat → Int32) × (Nat → Int32)) (fun n i s => wX_pack_19 post f1 f2 f3 f4 f5 f6 f7 f8 f9 f10 f11 n (nI i) a1 a2 a3 a4 a5 a6 a7 s.1 s.2 a10 a11 a12 a13 a14) (fun i s => (∀ j, j < i → s.1 j = 0) ∧ ∀ j, j < i → s.2 j = 0) 72 0 (a8, a9) (by omega) ⟨fun j h => absurd h (by omega), fun j h => absurd h (by omega)⟩
    (fun n s h => pk_le 72 72 (fun _ => H s.1 s.2 h.1 h.2) (fun z => absurd z (by omega)))
    (fun n i s hi h hw => pk_le 72 i (fun z => absurd z (by omega)) (fun _ => ⟨pk_in i 72 hi, nm_e ⟨pk_in i 72 hi, nm_e (nm_r (nI_1 i) (hw (_, _) ⟨ba_z (by omega) h.1, ba_z (by omega) h.2⟩))⟩⟩))
/-- skipEmpty: on to the next word, or to the end -/
theorem ba_skip {post : St2 → Prop} {nb : Nat} (hb : nb ≤ 24) (p q : Nat) (hpq : p ≤ q) (hz : ∀ j, p ≤ j → j < q → a8 j = 0) (hq : q = 3 * nb ∨ q < 3 * nb ∧ ¬ a8 q = 0)
    (H : post (f1, nI nb, f3, f4, f5, f6, f7, f8, nI q, f10, f11, a1, a2, a3, a4, a5, a6, a7, a8, a9, a10, a11, a12, a13, a14)) : wpX_skipEmpty post (f1, nI nb, f3, f4, f5, f6, f7, f8, nI p, f10, f11, a1, a2, a3, a4, a5, a6, a7, a8, a9, a10, a11, a12, a13, a14) :=
  pk_loop (σ := Unit) (fun n i _ => wX_skipEmpty_0 post f1 (nI nb) f3 f4 f5 f6 f7 f8 f10 f11 a1 a2 a3 a4 a5 a6 a7 a8 a9 a10 a11 a12 a13 a14 n (nI i)) (fun i _ => p ≤ i) q p () hpq (Nat.le_refl p)
    (fun n _ _ => pk_le (3 * nb) q (fun _ => H) (fun z => ⟨pk_in q 72 (by omega), br_f (by
      rw [nI_clamp (by omega)]
      rcases hq with h | h
      · omega
      · exact h.2) H⟩) (by exact pk_mul 3 nb))
    (fun n i _ hi hp hw => pk_le (3 * nb) i (fun z => absurd z (by omega)) (fun _ => ⟨pk_in i 72 (by omega), br_t (by
      rw [nI_clamp (by omega)]
      exact hz i hp hi) (nm_r (nI_1 i) (hw () (by omega)))⟩) (by exact pk_mul 3 nb))
theorem ba_cp {s f : Nat → Int32} {i : Nat} (hi : i < 2 ^ 31) (h : ∀ j, j < i → s j = f j) : ∀ j, j < i + 1 → upd s (nI i).toNatClampNeg (f (nI i).toNatClampNeg) j = f j := by
  intro j hj
  rw [nI_clamp hi]
  by_cases e : j = i
  · rw [e, pk_us]
  · rw [pk_un e]
    exact h j (by omega)
/-- takePicture -/
theorem ba_pic28 {post : St2 → Prop} (H : ∀ b : Nat → Int32, (∀ j, j < 16 → b j = a12 j) → post (f1, f2, f3, f4, f5, f6, f7, f8, f9, 0, f11, a1, a2, a3, a4, a5, a6, a7, a8, a9, a10, a11, a12, a13, b)) : ∃ n, wX_takePicture_28 post f1 f2 f3 f4 f5 f6 f7 f8 f9 f10 f11 n 0 a1 a2 a3 a4 a5 a6 a7 a8 a9 a10 a11 a12 a13 a14 :=
  pk_loop (fun n i s => wX_takePicture_28 post f1 f2 f3 f4 f5 f6 f7 f8 f9 f10 f11 n (nI i) a1 a2 a3 a4 a5 a6 a7 a8 a9 a10 a11 a12 a13 s) (fun i s => ∀ j, j < i → s j = a12 j) 16 0 a14 (by omega) (fun j h => absurd h (by omega))
    (fun n s h => pk_le 16 16 (fun _ => H s h) (fun z => absurd z (by omega)))
    (fun n i s hi h hw => pk_le 16 i (fun z => absurd z (by omega)) (fun _ => ⟨pk_in i 16 hi, pk_in i 16 hi, nm_e (nm_r (nI_1 i) (hw _ (ba_cp (by omega) h)))⟩))
theorem ba_pic {post : St2 → Prop} (H : ∀ b c : Nat → Int32, (∀ j, j < 8 → b j = a11 j) → (∀ j, j < 16 → c j = a12 j) → post (f1, f2, f3, f4, f5, f6, f7, f8, f9, 0, f11, a1, a2, a3, a4, a5, a6, a7, a8, a9, a10, a11, a12, b, c)) : wpX_takePicture post (f1, f2, f3, f4, f5, f6, f7, f8, f9, f10, f11, a1, a2, a3, a4, a5, a6, a7, a8, a9, a10, a11, a12, a13, a14) :=
  pk_loop (fun n i s => wX_takePicture_2 post f1 f2 f3 f4 f5 f6 f7 f8 f9 f10 f11 n (nI i) a1 a2 a3 a4 a5 a6 a7 a8 a9 a10 a11 a12 s a14) (fun i s => ∀ j, j < i → s j = a11 j) 8 0 a13 (by omega) (fun j h => absurd h (by omega))
    (fun n s h => pk_le 8 8 (fun _ => ba_pic28 (fun c hc => H s c h hc)) (fun z => absurd z (by omega)))
    (fun n i s hi h hw => pk_le 8 i (fun z => absurd z (by omega)) (fun _ => ⟨pk_in i 8 hi, pk_in i 8 hi, nm_e (nm_r (nI_1 i) (hw _ (ba_cp (by omega) h)))⟩))
end
end
section
/-- the templates -/
def ba_tab : Nat → Int32
  | 0 => 145
  | 1 => 137
  | 2 => 273
  | 3 => 265
  | 4 => 289
  | _ => 292
def ba_T (a : Nat → Int32) : Prop := ∀ t, t < 6 → a t = ba_tab t
/-- claim's loop: the templates that are left after the first t -/
def ba_left (fit s u : Int32) : Nat → Int32
  | 0 => 0
  | t + 1 => if ((fit >>> (nI t &&& 31)) &&& 1) = 1 then (if ((((ba_tab t) >>> ((3 * s) &&& 31)) &&& 7) &&& u) = 0 then ba_left fit s u t else ba_left fit s u t ||| ((1 : Int32) <<< (nI t &&& 31))) else ba_left fit s u t
section
variable {f1 f2 f3 f4 f5 f6 f7 f8 f9 f10 f11 : Int32} {a1 a2 a3 a4 a5 a6 a7 a8 a9 a10 a11 a12 a13 a14 : Nat → Int32}
theorem ba_claim {post : Int32 → St2 → Prop} {s u : Int32} (l f5' sl : Int32) (x : Nat) (hx : x < 24) (hT : ba_T a5) (hl : ba_left f6 s u 6 = l) (h5 : s + 1 = f5') (hs : (3 * f4) + s = sl)
    (H0 : l = 0 → post 0 (f1, f2, f3, f4, f5, f6, f7, f8, f9, f10, f11, a1, a2, a3, a4, a5, a6, a7, a8, a9, a10, a11, a12, a13, a14)) (H1 : ¬ l = 0 → post 1 (f1, f2, f3, f4, f5', l, f7, f8, f9, f10, f11, a1, a2, a3, a4, a5, a6, upd a7 x sl, a8, a9, a10, a11, a12, a13, a14)) : wpX_claim post (f1, f2, f3, f4, f5, f6, f7, f8, f9, f10, f11, a1, a2, a3, a4, a5, a6, a7, a8, a9, a10, a11, a12, a13, a14) (nI x) s u := by
  subst h5 hs
  exact pk_loop (σ := Int32) (fun n i r => wX_claim_6 post (nI x) s u f1 f2 f3 f4 f5 f6 f7 f8 f9 f10 f11 a1 a2 a3 a4 a5 a6 a7 a8 a9 a10 a11 a12 a13 a14 n r (nI i)) (fun i r => r = ba_left f6 s u i) 6 0 0 (by omega) rfl
    (fun n r h => pk_le 6 6 (fun _ => by
      have e : r = l := h.trans hl
      subst e
      exact br_c H0 (fun z => nm_e ⟨pk_in x 24 hx, nm_r (by rw [nI_clamp (by omega)]) (H1 z)⟩)) (fun z => absurd z (by omega)))
    (fun n i r hi h hw => pk_le 6 i (fun z => absurd z (by omega)) (fun _ => ⟨pk_in i 6 hi, nm_r (by rw [nI_clamp (by omega), hT i hi]) (br_c
      (fun p => br_c
        (fun q => nm_r (nI_1 i) (hw _ (by
          rw [h]
          show _ = ite _ _ _
          rw [if_pos p, if_pos q])))
        (fun q => nm_e (nm_r (nI_1 i) (hw _ (by
          rw [h]
          show _ = ite _ _ _
          rw [if_pos p, if_neg q])))))
      (fun p => nm_r (nI_1 i) (hw _ (by
        rw [h]
        show _ = ite _ _ _
        rw [if_neg p]))))⟩))
/-- closeBundle: none is open -/
theorem ba_cbN {post : St2 → Prop} (H : post (f1, f2, f3, (-1), f5, f6, f7, f8, f9, f10, f11, a1, a2, a3, a4, a5, a6, a7, a8, a9, a10, a11, a12, a13, a14)) : wpX_closeBundle post (f1, f2, f3, (-1), f5, f6, f7, f8, f9, f10, f11, a1, a2, a3, a4, a5, a6, a7, a8, a9, a10, a11, a12, a13, a14) := br_f (by decide) H
/-- closeBundle: template 0 fits -/
theorem ba_cb0 {post : St2 → Prop} (b : Nat) (hb : b < 24) (h4 : f4 = nI b) (h0 : ¬ ((f6 >>> ((0 : Int32) &&& 31)) &&& 1) = 0) (H : post (f1, f2, f3, (-1), f5, f6, f7, f8, f9, f10, f11, a1, a2, a3, a4, a5, a6, a7, a8, a9, upd a10 b 0, a11, a12, a13, a14)) : wpX_closeBundle post (f1, f2, f3, f4, f5, f6, f7, f8, f9, f10, f11, a1, a2, a3, a4, a5, a6, a7, a8, a9, a10, a11, a12, a13, a14) := by
  subst h4
  exact br_t (nI_pos' (by omega)) ⟨1, br_f (by decide) (br_f h0 ⟨pk_in b 24 hb, nm_r (by rw [nI_clamp (by omega)]) H⟩)⟩
/-- closeBundle: template 1 is the first that fits -/
theorem ba_cb1 {post : St2 → Prop} (b : Nat) (hb : b < 24) (h4 : f4 = nI b) (h0 : ((f6 >>> ((0 : Int32) &&& 31)) &&& 1) = 0) (h1 : ¬ ((f6 >>> ((1 : Int32) &&& 31)) &&& 1) = 0) (H : post (f1, f2, f3, (-1), f5, f6, f7, f8, f9, f10, f11, a1, a2, a3, a4, a5, a6, a7, a8, a9, upd a10 b 1, a11, a12, a13, a14)) : wpX_closeBundle post (f1, f2, f3, f4, f5, f6, f7, f8, f9, f10, f11, a1, a2, a3, a4, a5, a6, a7, a8, a9, a10, a11, a12, a13, a14) := by
  subst h4
  exact br_t (nI_pos' (by omega)) ⟨2, br_f (by decide) (br_t h0 (nm_r (show (0 : Int32) + 1 = 1 by decide) (br_f (by decide) (br_f h1 ⟨pk_in b 24 hb, nm_r (by rw [nI_clamp (by omega)]) H⟩))))⟩
/-- putIntoSlot, a new bundle: slot 0 of it -/
theorem ba_48a {post : St2 → Prop} {u : Int32} (l f2' sl : Int32) (x : Nat) (hx : x < 24) (hT : ba_T a5) (hl : ba_left 63 0 u 6 = l) (hn : ¬ l = 0) (h2 : f2 + 1 = f2') (hs : (3 * f2) + 0 = sl)
    (H : post (f1, f2', f3, f2, 1, l, f7, f8, f9, f10, f11, a1, a2, a3, a4, a5, a6, upd a7 x sl, a8, a9, a10, a11, a12, a13, a14)) : wX_putIntoSlot_48 post (nI x) u f1 f2 f3 f4 f5 f6 f7 f8 f9 f10 f11 a1 a2 a3 a4 a5 a6 a7 a8 a9 a10 a11 a12 a13 a14 :=
  nm_r h2 ⟨1, br_f (by decide) (ba_claim l 1 sl x hx hT hl (by decide) hs (fun z => absurd z hn) (fun _ => br_f (by decide) H))⟩
/-- putIntoSlot, a new bundle: not slot 0, but slot 1 of it -/
theorem ba_48b {post : St2 → Prop} {u : Int32} (l f2' sl : Int32) (x : Nat) (hx : x < 24) (hT : ba_T a5) (hl0 : ba_left 63 0 u 6 = 0) (hl : ba_left 63 1 u 6 = l) (hn : ¬ l = 0) (h2 : f2 + 1 = f2') (hs : (3 * f2) + 1 = sl)
    (H : post (f1, f2', f3, f2, 2, l, f7, f8, f9, f10, f11, a1, a2, a3, a4, a5, a6, upd a7 x sl, a8, a9, a10, a11, a12, a13, a14)) : wX_putIntoSlot_48 post (nI x) u f1 f2 f3 f4 f5 f6 f7 f8 f9 f10 f11 a1 a2 a3 a4 a5 a6 a7 a8 a9 a10 a11 a12 a13 a14 :=
  nm_r h2 ⟨2, br_f (by decide) (ba_claim 0 1 ((3 * f2) + 0) x hx hT hl0 (by decide) rfl (fun _ => br_t rfl (nm_r (show (0 : Int32) + 1 = 1 by decide) (br_f (by decide) (ba_claim l 2 sl x hx hT hl (by decide) hs (fun z => absurd z hn) (fun _ => br_f (by decide) H))))) (fun z => absurd rfl z))⟩
/-- putIntoSlot in the open bundle: the next slot is taken -/
theorem ba_22a {post : St2 → Prop} {u : Int32} (l f5' sl : Int32) (x : Nat) (hx : x < 24) (hT : ba_T a5) (h5 : ¬ 3 ≤ f5) (hl : ba_left f6 f5 u 6 = l) (hn : ¬ l = 0) (h5' : f5 + 1 = f5') (hs : (3 * f4) + f5 = sl)
    (H : post (f1, f2, f3, f4, f5', l, f7, f8, f9, f10, f11, a1, a2, a3, a4, a5, a6, upd a7 x sl, a8, a9, a10, a11, a12, a13, a14)) : ∃ n, wX_putIntoSlot_22 post (nI x) u n f5 f1 f2 f3 f4 f5 f6 f7 f8 f9 f10 f11 a1 a2 a3 a4 a5 a6 a7 a8 a9 a10 a11 a12 a13 a14 :=
  ⟨1, br_f h5 (ba_claim l f5' sl x hx hT hl h5' hs (fun z => absurd z hn) (fun _ => br_f (by decide) H))⟩
/-- putIntoSlot: slot 2 of the open bundle b isn't to be had; it is closed with template 0; slot 0 of a new one -/
theorem ba_22b {post : St2 → Prop} {u : Int32} (l f2' sl : Int32) (b x : Nat) (hx : x < 24) (hT : ba_T a5) (hb : b < 24) (h4 : f4 = nI b) (h5 : f5 = 2) (hl2 : ba_left f6 2 u 6 = 0) (h0 : ¬ ((f6 >>> ((0 : Int32) &&& 31)) &&& 1) = 0)
    (hl : ba_left 63 0 u 6 = l) (hn : ¬ l = 0) (h2 : f2 + 1 = f2') (hs : (3 * f2) + 0 = sl)
    (H : post (f1, f2', f3, f2, 1, l, f7, f8, f9, f10, f11, a1, a2, a3, a4, a5, a6, upd a7 x sl, a8, a9, upd a10 b 0, a11, a12, a13, a14)) : ∃ n, wX_putIntoSlot_22 post (nI x) u n f5 f1 f2 f3 f4 f5 f6 f7 f8 f9 f10 f11 a1 a2 a3 a4 a5 a6 a7 a8 a9 a10 a11 a12 a13 a14 := by
  subst h5
  exact ⟨2, br_f (by decide) (ba_claim 0 3 ((3 * f4) + 2) x hx hT hl2 (by decide) rfl (fun _ => br_t rfl (nm_r (show (2 : Int32) + 1 = 3 by decide) (br_t (by decide) (ba_cb0 b hb h4 h0 (ba_48a l f2' sl x hx hT hl hn h2 hs H))))) (fun z => absurd rfl z))⟩
end
end
section
def ba_units (k : Int32) : Int32 := if k < 9 then (if k < 7 then (if k = 4 then 2 else if k = 5 then 2 else 3) else 1) else 4
/-- the number by which a unit (not the branch unit) knows a kind -/
def ba_num (k : Int32) : Int32 := if k < 7 then (if k = 4 then k - 4 else if k = 5 then k - 4 else if k = 6 then 6 else k + 2) else k - 7
/-- the kind that a word means in a unit -/
def ba_kd (w u : Int32) : Int32 := if u = 4 then 9 + ((w &&& 15) - 1) else if 2 ≤ (w &&& 15) - 1 then (if (w &&& 15) - 1 = 6 then 6 else (w &&& 15) - 1 - 2) else if u = 1 then 7 + ((w &&& 15) - 1) else 4 + ((w &&& 15) - 1)
/-- what an operation computes -/
def ba_val (k a b : Int32) : Int32 := if k = 0 then a + b else if k = 1 then a - b else if k = 2 then a &&& b else if k = 3 then a ^^^ b else if k = 4 then a * b else a <<< ((b &&& 31) &&& 31)
section
variable {f1 f2 f3 f4 f5 f6 f7 f8 f9 f10 f11 : Int32} {a1 a2 a3 a4 a5 a6 a7 a8 a9 a10 a11 a12 a13 a14 : Nat → Int32}
theorem ba_unitsFor {post : Int32 → Prop} {k : Int32} (u : Int32) (hu : ba_units k = u) (H : post u) : wpX_unitsFor post () k := by
  subst hu
  unfold ba_units at H
  refine br_c (fun p => br_c (fun q => br_c (fun r => ?_) (fun r => br_c (fun s => ?_) (fun s => ?_))) (fun q => ?_)) (fun p => ?_)
  · rw [if_pos p, if_pos q, if_pos r] at H
    exact H
  · rw [if_pos p, if_pos q, if_neg r, if_pos s] at H
    exact H
  · rw [if_pos p, if_pos q, if_neg r, if_neg s] at H
    exact H
  · rw [if_pos p, if_neg q] at H
    exact H
  · rw [if_neg p] at H
    exact H
theorem ba_computed {post : Int32 → Prop} {k a b : Int32} (v : Int32) (hv : ba_val k a b = v) (H : post v) : wpX_computed post () k a b := by
  subst hv
  unfold ba_val at H
  refine br_c (fun p => ?_) (fun p => br_c (fun q => ?_) (fun q => br_c (fun r => ?_) (fun r => br_c (fun s => ?_) (fun s => br_c (fun t => ?_) (fun t => ?_)))))
  · rw [if_pos p] at H
    exact H
  · rw [if_neg p, if_pos q] at H
    exact H
  · rw [if_neg p, if_neg q, if_pos r] at H
    exact H
  · rw [if_neg p, if_neg q, if_neg r, if_pos s] at H
    exact H
  · rw [if_neg p, if_neg q, if_neg r, if_neg s, if_pos t] at H
    exact H
  · rw [if_neg p, if_neg q, if_neg r, if_neg s, if_neg t] at H
    exact H
/-- a STORE behind an operation that writes register 1 must wait -/
theorem ba_must {post : Int32 → Prop} (h1 : a1 1 = 8) (h2 : a2 1 = 1) (h3 : a3 1 = 2) (H : post 1) : wpX_mustStop post (f1, f2, f3, f4, f5, f6, 2, f8, f9, f10, f11, a1, a2, a3, a4, a5, a6, a7, a8, a9, a10, a11, a12, a13, a14) 1 :=
  And.intro (pk_in 1 24 (by omega)) (nm_r (show a1 (1 : Int32).toNatClampNeg = 8 from h1) (br_f (by decide) (And.intro (pk_in 1 24 (by omega)) (br_t (by decide) (br_t rfl (And.intro (pk_in 1 24 (by omega)) (nm_r (show ((1 : Int32) <<< ((a3 (1 : Int32).toNatClampNeg) &&& 31)) ||| ((1 : Int32) <<< ((a2 (1 : Int32).toNatClampNeg) &&& 31)) = 6 by
    rw [show a3 (1 : Int32).toNatClampNeg = 2 from h3, show a2 (1 : Int32).toNatClampNeg = 1 from h2]
    decide) (br_f (by decide) H))))))))
theorem ba_end0 {post : St2 → Prop} (H : post (f1, f2, f3, f4, f5, f6, 0, 0, f9, f10, f11, a1, a2, a3, a4, a5, a6, a7, a8, a9, a10, a11, a12, a13, a14)) : wpX_endGroup post (f1, f2, f3, f4, f5, f6, f7, f8, f9, f10, f11, a1, a2, a3, a4, a5, a6, a7, a8, a9, a10, a11, a12, a13, a14) 0 := br_t (by decide) H
theorem ba_end1 {post : St2 → Prop} (sl : Nat) (hs : sl < 72) (h7 : a7 0 = nI sl) (H : post (f1, f2, f3, f4, f5, f6, 0, 1, f9, f10, f11, a1, a2, a3, a4, a5, a6, a7, a8, upd a9 sl 1, a10, a11, a12, a13, a14)) : wpX_endGroup post (f1, f2, f3, f4, f5, f6, f7, f8, f9, f10, f11, a1, a2, a3, a4, a5, a6, a7, a8, a9, a10, a11, a12, a13, a14) 1 := by
  have e : a7 ((1 : Int32) - 1).toNatClampNeg = nI sl := h7
  refine br_f (by decide) (And.intro (pk_in 0 24 (by omega) (by decide)) (And.intro (pk_in sl 72 hs e) (nm_r ?_ H)))
  rw [e, nI_clamp (by omega)]
theorem ba_unitAt {post : Int32 → Prop} (sl tt : Nat) (u : Int32) (hs : sl < 72) (ht : tt < 6) (hT : ba_T a5) (h10 : a10 (sl / 3) = nI tt) (hu : ((ba_tab tt) >>> ((3 * nI (sl % 3)) &&& 31)) &&& 7 = u) (H : post u) : wpX_unitAt post (f1, f2, f3, f4, f5, f6, f7, f8, f9, f10, f11, a1, a2, a3, a4, a5, a6, a7, a8, a9, a10, a11, a12, a13, a14) (nI sl) := by
  have d : nI sl / 3 = nI (sl / 3) := pk_div (d := 3) (by omega) (by omega) (by omega)
  have r : nI sl - nI sl / 3 * 3 = nI (sl % 3) := pk_rem (d := 3) (by omega) (by omega) (by omega)
  unfold wpX_unitAt
  dsimp only
  rw [r, d, nI_clamp (show sl / 3 < 2 ^ 31 by omega), h10, nI_clamp (show tt < 2 ^ 31 by omega), hT tt ht, hu]
  exact ⟨by decide, pk_in (sl / 3) 24 (by omega), pk_in tt 6 ht, by decide, H⟩
theorem ba_code {post : St2 → Prop} {k d a b : Int32} (i sl tt : Nat) (u w : Int32) (hi : i < 24) (hs : sl < 72) (ht : tt < 6) (hT : ba_T a5) (h1 : a1 i = k) (hk : k < 9) (h2 : a2 i = d) (h3 : a3 i = a) (h4 : a4 i = b) (h7 : a7 i = nI sl) (h10 : a10 (sl / 3) = nI tt)
    (hu : ((ba_tab tt) >>> ((3 * nI (sl % 3)) &&& 31)) &&& 7 = u) (hu4 : ¬ u = 4) (hw : (((ba_num k + 1) ||| (d <<< ((4 : Int32) &&& 31))) ||| (a <<< ((7 : Int32) &&& 31))) ||| ((b + 128) <<< ((10 : Int32) &&& 31)) = w)
    (H : post (f1, f2, f3, f4, f5, f6, f7, f8, f9, f10, f11, a1, a2, a3, a4, a5, a6, a7, upd a8 sl w, a9, a10, a11, a12, a13, a14)) : wpX_code post (f1, f2, f3, f4, f5, f6, f7, f8, f9, f10, f11, a1, a2, a3, a4, a5, a6, a7, a8, a9, a10, a11, a12, a13, a14) (nI i) := by
  have ci : (nI i).toNatClampNeg = i := nI_clamp (by omega)
  have K : ∀ x5, x5 = ba_num k → wX_code_88 post (nI i) k (nI sl) x5 f1 f2 f3 f4 f5 f6 f7 f8 f9 f10 f11 a1 a2 a3 a4 a5 a6 a7 a8 a9 a10 a11 a12 a13 a14 := by
    intro x5 h5
    subst h5
    refine And.intro (pk_in i 24 hi) (nm_r (show a4 (nI i).toNatClampNeg = b by rw [ci, h4]) (br_t hk (And.intro (pk_in i 24 hi) (And.intro (pk_in i 24 hi) (And.intro (pk_in sl 72 hs) (nm_r ?_ H))))))
    rw [ci, nI_clamp (show sl < 2 ^ 31 by omega), h2, h3, hw]
  refine And.intro (pk_in i 24 hi) (nm_r (show a1 (nI i).toNatClampNeg = k by rw [ci, h1]) (And.intro (pk_in i 24 hi) (nm_r (show a7 (nI i).toNatClampNeg = nI sl by rw [ci, h7]) (ba_unitAt sl tt u hs ht hT h10 hu (br_f hu4 ?_)))))
  refine br_c (fun p => br_c (fun q => nm_e (K _ ?_)) (fun q => br_c (fun r => nm_e (K _ ?_)) (fun r => br_c (fun s => K _ ?_) (fun s => K _ ?_)))) (fun p => nm_e (K _ ?_))
  · unfold ba_num
    rw [if_pos p, if_pos q]
  · unfold ba_num
    rw [if_pos p, if_neg q, if_pos r]
  · unfold ba_num
    rw [if_pos p, if_neg q, if_neg r, if_pos s]
  · unfold ba_num
    rw [if_pos p, if_neg q, if_neg r, if_neg s]
  · unfold ba_num
    rw [if_neg p]
theorem ba_kindAt {post : Int32 → Prop} {w : Int32} (sl tt : Nat) (u k : Int32) (hs : sl < 72) (ht : tt < 6) (hT : ba_T a5) (h8 : a8 sl = w) (h10 : a10 (sl / 3) = nI tt) (hu : ((ba_tab tt) >>> ((3 * nI (sl % 3)) &&& 31)) &&& 7 = u) (hk : ba_kd w u = k) (H : post k) : wpX_kindAt post (f1, f2, f3, f4, f5, f6, f7, f8, f9, f10, f11, a1, a2, a3, a4, a5, a6, a7, a8, a9, a10, a11, a12, a13, a14) (nI sl) := by
  subst hk
  unfold ba_kd at H
  refine And.intro (pk_in sl 72 hs) (nm_r (show ((a8 (nI sl).toNatClampNeg) &&& 15) - 1 = (w &&& 15) - 1 by rw [nI_clamp (by omega), h8]) (ba_unitAt sl tt u hs ht hT h10 hu ?_))
  refine br_c (fun p => ?_) (fun p => br_c (fun q => br_c (fun r => ?_) (fun r => ?_)) (fun q => br_c (fun r => ?_) (fun r => ?_)))
  · rw [if_pos p] at H
    exact H
  · rw [if_neg p, if_pos q, if_pos r] at H
    exact H
  · rw [if_neg p, if_pos q, if_neg r] at H
    exact H
  · rw [if_neg p, if_neg q, if_pos r] at H
    exact H
  · rw [if_neg p, if_neg q, if_neg r] at H
    exact H
theorem ba_wordAt {w : Int32} (sl : Nat) (hs : sl < 72) (h8 : a8 sl = w) : a8 (nI sl).toNatClampNeg = w := by rw [nI_clamp (by omega), h8]
/-- a stop's flag is a boolean -/
theorem ba_flag {g : Int32} (h : g = 0 ∨ g = 1) : narrow .boolean (.int g) = .int g ∧ fits .boolean (.int g) = true := by
  rcases h with h | h <;> subst h <;> exact ⟨rfl, rfl⟩
end
end
section
section
variable {f1 f2 f3 f4 f5 f6 f7 f8 f9 f10 f11 : Int32} {a1 a2 a3 a4 a5 a6 a7 a8 a9 a10 a11 a12 a13 a14 : Nat → Int32}
/-- pack, operation 0: it leads, opens bundle 0 and writes register 1 -/
theorem ba_i0 {post : St2 → Prop} {n c : Nat} {k : Int32} (u g5 g6 sl : Int32) (hc : 0 < c) (hc2 : c < 24) (h1 : a1 0 = k) (h2 : a2 0 = 1) (h6 : a6 0 = 1) (hk7 : ¬ 7 < k) (hk9 : k < 9) (hu : ba_units k = u)
    (HP : ∀ P : St2 → Prop, P (nI c, 1, f3, 0, g5, g6, 0, 0, f9, f10, f11, a1, a2, a3, a4, a5, a6, upd a7 0 sl, a8, a9, a10, a11, a12, a13, a14) → wX_putIntoSlot_48 P (nI 0) u (nI c) 0 f3 (-1) f5 f6 0 0 f9 f10 f11 a1 a2 a3 a4 a5 a6 a7 a8 a9 a10 a11 a12 a13 a14)
    (H : wX_pack_67 post n 1 (nI c) 1 f3 0 g5 g6 2 0 f9 f10 f11 a1 a2 a3 a4 a5 a6 (upd a7 0 sl) a8 a9 a10 a11 a12 a13 a14) : wX_pack_67 post (n + 1) 0 (nI c) 0 f3 (-1) f5 f6 0 0 f9 f10 f11 a1 a2 a3 a4 a5 a6 a7 a8 a9 a10 a11 a12 a13 a14 := by
  have e1 : a1 (0 : Int32).toNatClampNeg = k := h1
  have e2 : a2 (0 : Int32).toNatClampNeg = 1 := h2
  have e6 : a6 (0 : Int32).toNatClampNeg = 1 := h6
  refine br_f (nI_nle hc (by omega)) (And.intro (pk_in 0 25 (by omega)) (br_f (by rw [e6]; decide) (ba_cbN (ba_end0 (And.intro (pk_in 0 24 (by omega)) (ba_unitsFor u (by rw [e1]; exact hu) (br_t (by decide) (HP _ ?_))))))))
  refine And.intro (pk_in 0 24 (by omega)) (br_f (by rw [e1]; exact hk7) (And.intro (pk_in 0 24 (by omega)) (nm_r (show (0 : Int32) ||| ((1 : Int32) <<< ((a2 (0 : Int32).toNatClampNeg) &&& 31)) = 2 by rw [e2]; decide) ?_)))
  exact And.intro (pk_in 0 24 (by omega)) (br_t (by rw [e1]; exact hk9) (nm_r (show (0 : Int32) + 1 = 1 by decide) H))
/-- pack, operation 1: a STORE that must wait for operation 0 -/
theorem ba_i1 {post : St2 → Prop} {n : Nat} (g2 g4 g5 g6 sl : Int32) {b10 : Nat → Int32} (s0 : Nat) (hs0 : s0 < 72) (h1 : a1 1 = 8) (h2 : a2 1 = 1) (h3 : a3 1 = 2) (h6 : a6 1 = 0) (h7 : a7 0 = nI s0)
    (HP : ∀ P : St2 → Prop, P (nI 2, g2, f3, g4, g5, g6, 0, 1, f9, f10, f11, a1, a2, a3, a4, a5, a6, upd a7 1 sl, a8, upd a9 s0 1, b10, a11, a12, a13, a14) → ∃ m, wX_putIntoSlot_22 P (nI 1) 1 m f5 (nI 2) 1 f3 0 f5 f6 0 1 f9 f10 f11 a1 a2 a3 a4 a5 a6 a7 a8 (upd a9 s0 1) a10 a11 a12 a13 a14)
    (H : wX_pack_67 post n 2 (nI 2) g2 f3 g4 g5 g6 0 1 f9 f10 f11 a1 a2 a3 a4 a5 a6 (upd a7 1 sl) a8 (upd a9 s0 1) b10 a11 a12 a13 a14) : wX_pack_67 post (n + 1) 1 (nI 2) 1 f3 0 f5 f6 2 0 f9 f10 f11 a1 a2 a3 a4 a5 a6 a7 a8 a9 a10 a11 a12 a13 a14 := by
  have e1 : a1 (1 : Int32).toNatClampNeg = 8 := h1
  have e6 : a6 (1 : Int32).toNatClampNeg = 0 := h6
  refine br_f (by decide) (And.intro (pk_in 1 25 (by omega)) (br_t e6 (ba_must h1 h2 h3 (br_f (by decide) (ba_end1 s0 hs0 h7 (And.intro (pk_in 1 24 (by omega)) (ba_unitsFor 1 (by rw [e1]; decide) (br_f (by decide) (HP _ ?_)))))))))
  exact And.intro (pk_in 1 24 (by omega)) (br_t (by rw [e1]; decide) (And.intro (pk_in 1 24 (by omega)) (br_t (by rw [e1]; decide) (nm_r (show (1 : Int32) + 1 = 2 by decide) H))))
end
/-- words: w stands at q alone -/
def ba_W1 (a : Nat → Int32) (q : Nat) (w : Int32) : Prop := a q = w ∧ ∀ j, j < 72 → j ≠ q → a j = 0
/-- words: w stands at q, w' at r, nothing elsewhere -/
def ba_W2 (a : Nat → Int32) (q : Nat) (w : Int32) (r : Nat) (w' : Int32) : Prop := a q = w ∧ a r = w' ∧ ∀ j, j < 72 → j ≠ q → j ≠ r → a j = 0
theorem ba_W1_put {a : Nat → Int32} {q : Nat} {w : Int32} (h : ∀ j, j < 72 → a j = 0) : ba_W1 (upd a q w) q w :=
  ⟨pk_us, fun j hj e => by rw [pk_un e]; exact h j hj⟩
theorem ba_W2_put {a : Nat → Int32} {q r : Nat} {w w' : Int32} (hqr : q ≠ r) (h : ∀ j, j < 72 → a j = 0) : ba_W2 (upd (upd a q w) r w') q w r w' :=
  ⟨by rw [pk_un hqr, pk_us], pk_us, fun j hj e e' => by rw [pk_un e', pk_un e]; exact h j hj⟩
/-- the word of an operation on register 1 by registers 1 and 2 -/
def ba_w (k : Int32) : Int32 := (((ba_num k + 1) ||| ((1 : Int32) <<< ((4 : Int32) &&& 31))) ||| ((1 : Int32) <<< ((7 : Int32) &&& 31))) ||| (((2 : Int32) + 128) <<< ((10 : Int32) &&& 31))
/-- the word of STORE 1 2 b -/
def ba_ws (b : Int32) : Int32 := (((ba_num 8 + 1) ||| ((1 : Int32) <<< ((4 : Int32) &&& 31))) ||| ((2 : Int32) <<< ((7 : Int32) &&& 31))) ||| ((b + 128) <<< ((10 : Int32) &&& 31))
section
variable {f1 f2 f3 f4 f5 f6 f7 f8 f9 f10 f11 : Int32} {a1 a2 a3 a4 a5 a6 a7 a8 a9 a10 a11 a12 a13 a14 : Nat → Int32}
/-- one operation of units 3: slot 0 -/
theorem ba_pA {post : St2 → Prop} {k : Int32} (hk3 : ba_units k = 3) (hk7 : ¬ 7 < k) (hk9 : k < 9) (hT : ba_T a5) (h1 : a1 0 = k) (h2 : a2 0 = 1) (h3 : a3 0 = 1) (h4 : a4 0 = 2) (h6 : a6 0 = 1) (h8 : ∀ j, j < 72 → a8 j = 0)
    (H : ∀ (g5 g6 g7 g8 : Int32) (b7 b8 b10 : Nat → Int32), ba_W1 b8 0 (ba_w k) → b10 0 = nI 0 → post (nI 1, nI 1, 1, (-1), g5, g6, g7, g8, f9, f10, f11, a1, a2, a3, a4, a5, a6, b7, b8, a9, b10, a11, a12, a13, a14)) :
    ∃ n, wX_pack_67 post n 0 (nI 1) 0 1 (-1) f5 f6 0 0 f9 f10 f11 a1 a2 a3 a4 a5 a6 a7 a8 a9 a10 a11 a12 a13 a14 := by
  refine ⟨2, ba_i0 3 1 31 0 (by omega) (by omega) h1 h2 h6 hk7 hk9 hk3 (fun P hP => ba_48a 31 1 0 0 (by omega) hT (by decide +kernel) (by decide) (by decide) (by decide) hP) ?_⟩
  refine br_t (by decide) (ba_cb0 0 (by omega) rfl (by decide) ?_)
  exact ⟨2, br_f (by decide) (ba_code 0 0 0 1 (ba_w k) (by omega) (by omega) (by omega) hT h1 hk9 h2 h3 h4 (by exact pk_us) (by exact pk_us) (by decide +kernel) (by decide) rfl (nm_r (show (0 : Int32) + 1 = 1 by decide) (br_t (by decide) (H _ _ _ _ _ _ _ (ba_W1_put h8) pk_us))))⟩
/-- one operation of unit 2: slot 1 -/
theorem ba_pB {post : St2 → Prop} {k : Int32} (hk3 : ba_units k = 2) (hk7 : ¬ 7 < k) (hk9 : k < 9) (hT : ba_T a5) (h1 : a1 0 = k) (h2 : a2 0 = 1) (h3 : a3 0 = 1) (h4 : a4 0 = 2) (h6 : a6 0 = 1) (h8 : ∀ j, j < 72 → a8 j = 0)
    (H : ∀ (g5 g6 g7 g8 : Int32) (b7 b8 b10 : Nat → Int32), ba_W1 b8 1 (ba_w k) → b10 0 = nI 0 → post (nI 1, nI 1, 1, (-1), g5, g6, g7, g8, f9, f10, f11, a1, a2, a3, a4, a5, a6, b7, b8, a9, b10, a11, a12, a13, a14)) :
    ∃ n, wX_pack_67 post n 0 (nI 1) 0 1 (-1) f5 f6 0 0 f9 f10 f11 a1 a2 a3 a4 a5 a6 a7 a8 a9 a10 a11 a12 a13 a14 := by
  refine ⟨2, ba_i0 2 2 5 1 (by omega) (by omega) h1 h2 h6 hk7 hk9 hk3 (fun P hP => ba_48b 5 1 1 0 (by omega) hT (by decide +kernel) (by decide +kernel) (by decide) (by decide) (by decide) hP) ?_⟩
  refine br_t (by decide) (ba_cb0 0 (by omega) rfl (by decide) ?_)
  exact ⟨2, br_f (by decide) (ba_code 0 1 0 2 (ba_w k) (by omega) (by omega) (by omega) hT h1 hk9 h2 h3 h4 (by exact pk_us) (by exact pk_us) (by decide +kernel) (by decide) rfl (nm_r (show (0 : Int32) + 1 = 1 by decide) (br_t (by decide) (H _ _ _ _ _ _ _ (ba_W1_put h8) pk_us))))⟩
/-- an operation of units 3 and the STORE: slots 0 and 1 of bundle 0, template 1 -/
theorem ba_pC {post : St2 → Prop} {k b : Int32} (hk3 : ba_units k = 3) (hk7 : ¬ 7 < k) (hk9 : k < 9) (hT : ba_T a5) (h1 : a1 0 = k) (h2 : a2 0 = 1) (h3 : a3 0 = 1) (h4 : a4 0 = 2) (h6 : a6 0 = 1) (i1 : a1 1 = 8) (i2 : a2 1 = 1) (i3 : a3 1 = 2) (i4 : a4 1 = b) (i6 : a6 1 = 0) (h8 : ∀ j, j < 72 → a8 j = 0)
    (H : ∀ (g5 g6 g7 g8 : Int32) (b7 b8 b10 : Nat → Int32), ba_W2 b8 0 (ba_w k) 1 (ba_ws b) → b10 0 = nI 1 → post (nI 2, nI 1, 1, (-1), g5, g6, g7, g8, f9, f10, f11, a1, a2, a3, a4, a5, a6, b7, b8, upd a9 0 1, b10, a11, a12, a13, a14)) :
    ∃ n, wX_pack_67 post n 0 (nI 2) 0 1 (-1) f5 f6 0 0 f9 f10 f11 a1 a2 a3 a4 a5 a6 a7 a8 a9 a10 a11 a12 a13 a14 := by
  refine ⟨3, ba_i0 3 1 31 0 (by omega) (by omega) h1 h2 h6 hk7 hk9 hk3 (fun P hP => ba_48a 31 1 0 0 (by omega) hT (by decide +kernel) (by decide) (by decide) (by decide) hP) ?_⟩
  refine ba_i1 1 0 2 10 1 0 (by omega) i1 i2 i3 i6 pk_us (fun P hP => ba_22a 10 2 1 1 (by omega) hT (by decide) (by decide +kernel) (by decide) (by decide) (by decide) hP) ?_
  refine br_t (by decide) (ba_cb1 0 (by omega) rfl (by decide) (by decide) ?_)
  refine ⟨3, br_f (by decide) (ba_code 0 0 1 1 (ba_w k) (by omega) (by omega) (by omega) hT h1 hk9 h2 h3 h4 ((pk_un (by omega)).trans pk_us) (by exact pk_us) (by decide +kernel) (by decide) rfl (nm_r (show (0 : Int32) + 1 = 1 by decide) (br_f (by decide) ?_)))⟩
  exact ba_code 1 1 1 1 (ba_ws b) (by omega) (by omega) (by omega) hT i1 (by decide) i2 i3 i4 (by exact pk_us) (by exact pk_us) (by decide +kernel) (by decide) rfl (nm_r (show (1 : Int32) + 1 = 2 by decide) (br_t (by decide) (H _ _ _ _ _ _ _ (ba_W2_put (by omega) h8) pk_us)))
/-- an operation of unit 2 and the STORE: slot 1 of bundle 0, slot 0 of bundle 1, template 0 both -/
theorem ba_pD {post : St2 → Prop} {k b : Int32} (hk3 : ba_units k = 2) (hk7 : ¬ 7 < k) (hk9 : k < 9) (hT : ba_T a5) (h1 : a1 0 = k) (h2 : a2 0 = 1) (h3 : a3 0 = 1) (h4 : a4 0 = 2) (h6 : a6 0 = 1) (i1 : a1 1 = 8) (i2 : a2 1 = 1) (i3 : a3 1 = 2) (i4 : a4 1 = b) (i6 : a6 1 = 0) (h8 : ∀ j, j < 72 → a8 j = 0)
    (H : ∀ (g5 g6 g7 g8 : Int32) (b7 b8 b10 : Nat → Int32), ba_W2 b8 1 (ba_w k) 3 (ba_ws b) → b10 0 = nI 0 → b10 1 = nI 0 → post (nI 2, nI 2, 1, (-1), g5, g6, g7, g8, f9, f10, f11, a1, a2, a3, a4, a5, a6, b7, b8, upd a9 1 1, b10, a11, a12, a13, a14)) :
    ∃ n, wX_pack_67 post n 0 (nI 2) 0 1 (-1) f5 f6 0 0 f9 f10 f11 a1 a2 a3 a4 a5 a6 a7 a8 a9 a10 a11 a12 a13 a14 := by
  refine ⟨3, ba_i0 2 2 5 1 (by omega) (by omega) h1 h2 h6 hk7 hk9 hk3 (fun P hP => ba_48b 5 1 1 0 (by omega) hT (by decide +kernel) (by decide +kernel) (by decide) (by decide) (by decide) hP) ?_⟩
  refine ba_i1 2 1 1 31 3 1 (by omega) i1 i2 i3 i6 pk_us (fun P hP => ba_22b 31 2 3 0 1 (by omega) hT (by omega) rfl rfl (by decide +kernel) (by decide) (by decide +kernel) (by decide) (by decide) (by decide) hP) ?_
  refine br_t (by decide) (ba_cb0 1 (by omega) rfl (by decide) ?_)
  refine ⟨3, br_f (by decide) (ba_code 0 1 0 2 (ba_w k) (by omega) (by omega) (by omega) hT h1 hk9 h2 h3 h4 ((pk_un (by omega)).trans pk_us) ((pk_un (by omega)).trans pk_us) (by decide +kernel) (by decide) rfl (nm_r (show (0 : Int32) + 1 = 1 by decide) (br_f (by decide) ?_)))⟩
  exact ba_code 1 3 0 1 (ba_ws b) (by omega) (by omega) (by omega) hT i1 (by decide) i2 i3 i4 (by exact pk_us) (by exact pk_us) (by decide +kernel) (by decide) rfl (nm_r (show (1 : Int32) + 1 = 2 by decide) (br_t (by decide) (H _ _ _ _ _ _ _ (ba_W2_put (by omega) h8) ((pk_un (by omega)).trans pk_us) pk_us)))
end
end
section
/-- the kinds of the law's first operation -/
def ba_ok (k : Int32) : Prop := k = 0 ∨ k = 1 ∨ k = 2 ∨ k = 3 ∨ k = 4 ∨ k = 5
/-- the unit at slot q under template tt -/
def ba_un (tt q : Nat) : Int32 := ((ba_tab tt) >>> ((3 * nI (q % 3)) &&& 31)) &&& 7
def ba_wf (w d f s : Int32) : Prop := (w >>> ((4 : Int32) &&& 31)) &&& 7 = d ∧ (w >>> ((7 : Int32) &&& 31)) &&& 7 = f ∧ (w >>> ((10 : Int32) &&& 31)) - 128 = s ∧ ¬ w = 0
theorem ba_w_wf {k : Int32} (h : ba_ok k) : ba_wf (ba_w k) 1 1 2 := by
  rcases h with h | h | h | h | h | h <;> subst h <;> exact ⟨by decide +kernel, by decide +kernel, by decide +kernel, by decide +kernel⟩
theorem ba_ok_f {k : Int32} (h : ba_ok k) : k < 9 ∧ (¬ k = 8) ∧ (¬ k = 7) ∧ (¬ k = 6) ∧ ¬ 7 < k := by
  rcases h with h | h | h | h | h | h <;> subst h <;> decide
theorem ba_ok_u {k : Int32} (h : ba_ok k) : (ba_units k = 3 ∧ ba_kd (ba_w k) 1 = k) ∨ (ba_units k = 2 ∧ ba_kd (ba_w k) 2 = k) := by
  rcases h with h | h | h | h | h | h <;> subst h
  · exact Or.inl (by decide +kernel)
  · exact Or.inl (by decide +kernel)
  · exact Or.inl (by decide +kernel)
  · exact Or.inl (by decide +kernel)
  · exact Or.inr (by decide +kernel)
  · exact Or.inr (by decide +kernel)
def ba_wsN (j : Nat) : Int32 := (((ba_num 8 + 1) ||| ((1 : Int32) <<< ((4 : Int32) &&& 31))) ||| ((2 : Int32) <<< ((7 : Int32) &&& 31))) ||| (nI j <<< ((10 : Int32) &&& 31))
theorem ba_wsN_f : ∀ j, j < 256 → (ba_wsN j >>> ((4 : Int32) &&& 31)) &&& 7 = 1 ∧ (ba_wsN j >>> ((7 : Int32) &&& 31)) &&& 7 = 2 ∧ ba_wsN j >>> ((10 : Int32) &&& 31) = nI j ∧ (¬ ba_wsN j = 0) ∧ ba_kd (ba_wsN j) 1 = 8 := by decide +kernel
theorem ba_ws_f {b : Int32} (h1 : ¬ b < (-128)) (h2 : ¬ 127 < b) : ba_wf (ba_ws b) 1 2 b ∧ ba_kd (ba_ws b) 1 = 8 := by
  obtain ⟨j, hj, e, e'⟩ := bx_small h1 h2
  have ew : ba_ws b = ba_wsN j := by
    unfold ba_ws ba_wsN
    rw [e]
  obtain ⟨p1, p2, p3, p4, p5⟩ := ba_wsN_f j hj
  rw [ew]
  exact ⟨⟨p1, p2, by rw [p3, e']; rfl, p4⟩, p5⟩
section
variable {f1 f2 f3 f4 f5 f6 f7 f8 f9 f10 f11 : Int32} {a1 a2 a3 a4 a5 a6 a7 a8 a9 a10 a11 a12 a13 a14 : Nat → Int32}
theorem ba_destAt {post : Int32 → Prop} {w d : Int32} (q : Nat) (hq : q < 72) (h8 : a8 q = w) (hd : (w >>> ((4 : Int32) &&& 31)) &&& 7 = d) (H : post d) : wpX_destAt post (f1, f2, f3, f4, f5, f6, f7, f8, f9, f10, f11, a1, a2, a3, a4, a5, a6, a7, a8, a9, a10, a11, a12, a13, a14) (nI q) := by
  subst hd h8
  exact And.intro (pk_in q 72 hq) (by rw [nI_clamp (by omega)]; exact H)
theorem ba_firstAt {post : Int32 → Prop} {w d : Int32} (q : Nat) (hq : q < 72) (h8 : a8 q = w) (hd : (w >>> ((7 : Int32) &&& 31)) &&& 7 = d) (H : post d) : wpX_firstAt post (f1, f2, f3, f4, f5, f6, f7, f8, f9, f10, f11, a1, a2, a3, a4, a5, a6, a7, a8, a9, a10, a11, a12, a13, a14) (nI q) := by
  subst hd h8
  exact And.intro (pk_in q 72 hq) (by rw [nI_clamp (by omega)]; exact H)
theorem ba_secondAt {post : Int32 → Prop} {w d : Int32} (q : Nat) (hq : q < 72) (h8 : a8 q = w) (hd : (w >>> ((10 : Int32) &&& 31)) - 128 = d) (H : post d) : wpX_secondAt post (f1, f2, f3, f4, f5, f6, f7, f8, f9, f10, f11, a1, a2, a3, a4, a5, a6, a7, a8, a9, a10, a11, a12, a13, a14) (nI q) := by
  subst hd h8
  exact And.intro (pk_in q 72 hq) (by rw [nI_clamp (by omega)]; exact H)
theorem ba_151 {post : St2 → Prop} {g : Int32} (q : Nat) (hq : q < 72) (h9 : a9 q = g) (hg : g = 0 ∨ g = 1) (H : post (f1, f2, f3, f4, f5, f6, f7, f8, nI (q + 1), g, f11, a1, a2, a3, a4, a5, a6, a7, a8, a9, a10, a11, a12, a13, a14)) : wX_carryOut_151 post f1 f2 f3 f4 f5 f6 f7 f8 (nI q) f10 f11 a1 a2 a3 a4 a5 a6 a7 a8 a9 a10 a11 a12 a13 a14 :=
  And.intro (pk_in q 72 hq) (nm_r (show a9 (nI q).toNatClampNeg = g by rw [nI_clamp (by omega), h9]) (And.intro (ba_flag hg).1 (And.intro (ba_flag hg).2 (nm_r (nI_1 q) H))))
/-- the first operation is carried out -/
theorem ba_alu {post : St2 → Prop} {k w u x y g : Int32} (q tt : Nat) (hq : q < 72) (ht : tt < 6) (hT : ba_T a5) (hk : ba_ok k) (h8 : a8 q = w) (hw : ba_wf w 1 1 2) (h10 : a10 (q / 3) = nI tt) (hu : ba_un tt q = u) (hd : ba_kd w u = k) (hx : a13 1 = x) (hy : a13 2 = y) (h9 : a9 q = g) (hg : g = 0 ∨ g = 1)
    (H : post (f1, f2, f3, f4, f5, f6, f7, f8, nI (q + 1), g, f11, a1, a2, a3, a4, a5, a6, a7, a8, a9, a10, upd a11 1 (ba_val k x y), a12, a13, a14)) : wpX_carryOut post (f1, f2, f3, f4, f5, f6, f7, f8, nI q, f10, f11, a1, a2, a3, a4, a5, a6, a7, a8, a9, a10, a11, a12, a13, a14) := by
  obtain ⟨w1, w2, w3, _⟩ := hw
  obtain ⟨k9, k8, k7, k6, _⟩ := ba_ok_f hk
  unfold wpX_carryOut
  dsimp only
  refine ba_kindAt q tt u k hq ht hT h8 h10 hu hd (ba_destAt q hq h8 w1 (ba_firstAt q hq h8 w2 (And.intro (pk_in 1 8 (by omega)) (nm_r (show a13 (1 : Int32).toNatClampNeg = x from hx) (ba_secondAt q hq h8 w3 ?_)))))
  refine br_t k9 (br_f k8 (br_f k7 (br_f k6 (And.intro (pk_in 2 8 (by omega) (by decide)) ?_))))
  have e : a13 ((2 : Int32) &&& 7).toNatClampNeg = y := hy
  rw [e]
  exact ba_computed _ rfl (And.intro (pk_in 1 8 (by omega)) (nm_e (ba_151 q hq h9 hg H)))
/-- the STORE is carried out -/
theorem ba_store {post : St2 → Prop} {w b x y g : Int32} (q tt : Nat) (hq : q < 72) (ht : tt < 6) (hT : ba_T a5) (h8 : a8 q = w) (hw : ba_wf w 1 2 b) (h10 : a10 (q / 3) = nI tt) (hu : ba_un tt q = 1) (hd : ba_kd w 1 = 8) (hx : a13 1 = x) (hy : a13 2 = y) (h9 : a9 q = g) (hg : g = 0 ∨ g = 1)
    (H : post (f1, f2, f3, f4, f5, f6, f7, f8, nI (q + 1), g, f11, a1, a2, a3, a4, a5, a6, a7, a8, a9, a10, a11, upd a12 ((y + b) &&& 15).toNatClampNeg x, a13, a14)) : wpX_carryOut post (f1, f2, f3, f4, f5, f6, f7, f8, nI q, f10, f11, a1, a2, a3, a4, a5, a6, a7, a8, a9, a10, a11, a12, a13, a14) := by
  obtain ⟨w1, w2, w3, _⟩ := hw
  unfold wpX_carryOut
  dsimp only
  refine ba_kindAt q tt 1 8 hq ht hT h8 h10 hu hd (ba_destAt q hq h8 w1 (ba_firstAt q hq h8 w2 (And.intro (pk_in 2 8 (by omega)) (nm_r (show a13 (2 : Int32).toNatClampNeg = y from hy) (ba_secondAt q hq h8 w3 ?_)))))
  exact br_t (by decide) (br_t rfl (And.intro (pk_in 1 8 (by omega)) (And.intro (pk_andIn (y + b) 4 (by decide) (by omega)) (nm_r (show upd a12 ((y + b) &&& 15).toNatClampNeg (a13 (1 : Int32).toNatClampNeg) = upd a12 ((y + b) &&& 15).toNatClampNeg x by rw [show a13 (1 : Int32).toNatClampNeg = x from hx]) (ba_151 q hq h9 hg H)))))
end
/-- packed: one operation -/
def ba_R1 (k : Int32) (a8 a9 a10 : Nat → Int32) (nb q tt : Nat) (u : Int32) : Prop := q < 3 * nb ∧ nb ≤ 2 ∧ tt < 6 ∧ ba_W1 a8 q (ba_w k) ∧ a10 (q / 3) = nI tt ∧ ba_un tt q = u ∧ ba_kd (ba_w k) u = k ∧ a9 q = 0
/-- packed: an operation, and the STORE in a group of its own -/
def ba_R2 (k b : Int32) (a8 a9 a10 : Nat → Int32) (nb q r tt tr : Nat) (u : Int32) : Prop := q < r ∧ r < 3 * nb ∧ nb ≤ 2 ∧ tt < 6 ∧ tr < 6 ∧ ba_W2 a8 q (ba_w k) r (ba_ws b) ∧ a10 (q / 3) = nI tt ∧ a10 (r / 3) = nI tr ∧ ba_un tt q = u ∧ ba_un tr r = 1 ∧ ba_kd (ba_w k) u = k ∧ a9 q = 1 ∧ a9 r = 0
section
variable {f1 f2 f3 f4 f5 f6 f7 f8 f9 f10 f11 : Int32} {a1 a2 a3 a4 a5 a6 a7 a8 a9 a10 a11 a12 a13 a14 : Nat → Int32}
theorem ba_pack1 {post : St2 → Prop} {k : Int32} (hk : ba_ok k) (hT : ba_T a5) (h1 : a1 0 = k) (h2 : a2 0 = 1) (h3 : a3 0 = 1) (h4 : a4 0 = 2)
    (H : ∀ (g5 g6 g7 g8 : Int32) (b6 b7 b8 b9 b10 : Nat → Int32) (nb q tt : Nat) (u : Int32), ba_R1 k b8 b9 b10 nb q tt u → post (nI 1, nI nb, 1, (-1), g5, g6, g7, g8, f9, f10, f11, a1, a2, a3, a4, a5, b6, b7, b8, b9, b10, a11, a12, a13, a14)) :
    wpX_pack post (nI 1, f2, 0, f4, f5, f6, f7, f8, f9, f10, f11, a1, a2, a3, a4, a5, a6, a7, a8, a9, a10, a11, a12, a13, a14) := by
  obtain ⟨k9, _, _, _, k7⟩ := ba_ok_f hk
  refine br_t rfl (ba_fl (c := 1) (by omega) (fun j hj => by rw [show j = 0 by omega, h1]; exact k9) (fun b6 hb6 _ => ba_p19 (fun b8 b9 hb8 hb9 => ?_)))
  rcases ba_ok_u hk with ⟨hu, hd⟩ | ⟨hu, hd⟩
  · exact ba_pA hu k7 k9 hT h1 h2 h3 h4 hb6 hb8 (fun g5 g6 g7 g8 b7 c8 b10 hW h10 => H g5 g6 g7 g8 b6 b7 c8 b9 b10 1 0 0 1 ⟨by omega, by omega, by omega, hW, h10, by decide +kernel, hd, hb9 0 (by omega)⟩)
  · exact ba_pB hu k7 k9 hT h1 h2 h3 h4 hb6 hb8 (fun g5 g6 g7 g8 b7 c8 b10 hW h10 => H g5 g6 g7 g8 b6 b7 c8 b9 b10 1 1 0 2 ⟨by omega, by omega, by omega, hW, h10, by decide +kernel, hd, hb9 1 (by omega)⟩)
theorem ba_pack2 {post : St2 → Prop} {k b : Int32} (hk : ba_ok k) (hT : ba_T a5) (h1 : a1 0 = k) (h2 : a2 0 = 1) (h3 : a3 0 = 1) (h4 : a4 0 = 2) (i1 : a1 1 = 8) (i2 : a2 1 = 1) (i3 : a3 1 = 2) (i4 : a4 1 = b)
    (H : ∀ (g5 g6 g7 g8 : Int32) (b6 b7 b8 b9 b10 : Nat → Int32) (nb q r tt tr : Nat) (u : Int32), ba_R2 k b b8 b9 b10 nb q r tt tr u → post (nI 2, nI nb, 1, (-1), g5, g6, g7, g8, f9, f10, f11, a1, a2, a3, a4, a5, b6, b7, b8, b9, b10, a11, a12, a13, a14)) :
    wpX_pack post (nI 2, f2, 0, f4, f5, f6, f7, f8, f9, f10, f11, a1, a2, a3, a4, a5, a6, a7, a8, a9, a10, a11, a12, a13, a14) := by
  obtain ⟨k9, _, _, _, k7⟩ := ba_ok_f hk
  refine br_t rfl (ba_fl (c := 2) (by omega) (fun j hj => ?_) (fun b6 hb6 hb6' => ba_p19 (fun b8 b9 hb8 hb9 => ?_)))
  · rcases Nat.lt_or_ge j 1 with z | z
    · rw [show j = 0 by omega, h1]
      exact k9
    · rw [show j = 1 by omega, i1]
      decide
  · rcases ba_ok_u hk with ⟨hu, hd⟩ | ⟨hu, hd⟩
    · exact ba_pC hu k7 k9 hT h1 h2 h3 h4 hb6 i1 i2 i3 i4 (hb6' 1 (by omega) (by omega)) hb8 (fun g5 g6 g7 g8 b7 c8 b10 hW h10 => H g5 g6 g7 g8 b6 b7 c8 _ b10 1 0 1 1 1 1 ⟨by omega, by omega, by omega, by omega, by omega, hW, h10, h10, by decide +kernel, by decide +kernel, hd, pk_us, by rw [pk_un (by omega)]; exact hb9 1 (by omega)⟩)
    · exact ba_pD hu k7 k9 hT h1 h2 h3 h4 hb6 i1 i2 i3 i4 (hb6' 1 (by omega) (by omega)) hb8 (fun g5 g6 g7 g8 b7 c8 b10 hW h10 h10' => H g5 g6 g7 g8 b6 b7 c8 _ b10 2 1 3 0 0 2 ⟨by omega, by omega, by omega, by omega, by omega, hW, h10, h10', by decide +kernel, by decide +kernel, hd, pk_us, by rw [pk_un (by omega)]; exact hb9 3 (by omega)⟩)
/-- run(2) of one operation: one step; the machine stands at the end -/
theorem ba_run1 {post : Int32 → St2 → Prop} {k x y : Int32} (hk : ba_ok k) (hT : ba_T a5) (h1 : a1 0 = k) (h2 : a2 0 = 1) (h3 : a3 0 = 1) (h4 : a4 0 = 2) (hx : a11 1 = x) (hy : a11 2 = y)
    (H : ∀ (g5 g6 g7 g8 : Int32) (b6 b7 b8 b9 b10 b13 b14 : Nat → Int32) (nb : Nat), nb ≤ 2 → post 1 (nI 1, nI nb, 1, (-1), g5, g6, g7, g8, nI (3 * nb), 0, f11, a1, a2, a3, a4, a5, b6, b7, b8, b9, b10, upd a11 1 (ba_val k x y), a12, b13, b14)) :
    wpX_run post (nI 1, f2, 0, f4, f5, f6, f7, f8, 0, 1, f11, a1, a2, a3, a4, a5, a6, a7, a8, a9, a10, a11, a12, a13, a14) 2 := by
  refine br_f (by decide) (br_t (by decide) (ba_pack1 hk hT h1 h2 h3 h4 (fun g5 g6 g7 g8 b6 b7 b8 b9 b10 nb q tt u hR => ⟨2, ?_⟩)))
  obtain ⟨hq, hnb, ht, hW, h10, hu, hd, h9⟩ := hR
  have hw := ba_w_wf hk
  refine br_f (by decide) (ba_skip (by omega) 0 q (by omega) (fun j _ hj => hW.2 j (by omega) (by omega)) (Or.inr ⟨hq, by rw [hW.1]; exact hw.2.2.2⟩) (pk_lt q (3 * nb) (fun _ => br_f (by decide) (ba_pic (fun b13 b14 e13 e14 => ?_))) (fun z => absurd z (by omega)) rfl (by exact pk_mul 3 nb)))
  refine ba_alu q tt (by omega) ht hT hk hW.1 hw h10 hu hd ((e13 1 (by omega)).trans hx) ((e13 2 (by omega)).trans hy) h9 (Or.inl rfl) (nm_r (show (0 : Int32) + 1 = 1 by decide) (nm_r (show (0 : Int32) + 1 = 1 by decide) (br_f (by decide) ?_)))
  exact ba_skip (by omega) (q + 1) (3 * nb) (by omega) (fun j h h' => hW.2 j (by omega) (by omega)) (Or.inl rfl) (pk_lt (3 * nb) (3 * nb) (fun z => absurd z (by omega)) (fun _ => H _ _ _ _ _ _ _ _ _ _ _ nb hnb) rfl (by exact pk_mul 3 nb))
/-- run(2) of both: two steps; what is left is empty -/
theorem ba_run2 {post : Int32 → St2 → Prop} {k b x y : Int32} (hk : ba_ok k) (hb1 : ¬ b < (-128)) (hb2 : ¬ 127 < b) (hT : ba_T a5) (h1 : a1 0 = k) (h2 : a2 0 = 1) (h3 : a3 0 = 1) (h4 : a4 0 = 2) (i1 : a1 1 = 8) (i2 : a2 1 = 1) (i3 : a3 1 = 2) (i4 : a4 1 = b) (hx : a11 1 = x) (hy : a11 2 = y)
    (H : ∀ (g5 g6 g7 g8 : Int32) (b6 b7 b8 b9 b10 b13 b14 : Nat → Int32) (nb p : Nat), nb ≤ 2 → p ≤ 3 * nb → (∀ j, p ≤ j → j < 3 * nb → b8 j = 0) → post 2 (nI 2, nI nb, 1, (-1), g5, g6, g7, g8, nI p, 0, f11, a1, a2, a3, a4, a5, b6, b7, b8, b9, b10, upd a11 1 (ba_val k x y), upd a12 ((y + b) &&& 15).toNatClampNeg (ba_val k x y), b13, b14)) :
    wpX_run post (nI 2, f2, 0, f4, f5, f6, f7, f8, 0, 1, f11, a1, a2, a3, a4, a5, a6, a7, a8, a9, a10, a11, a12, a13, a14) 2 := by
  refine br_f (by decide) (br_t (by decide) (ba_pack2 hk hT h1 h2 h3 h4 i1 i2 i3 i4 (fun g5 g6 g7 g8 b6 b7 b8 b9 b10 nb q r tt tr u hR => ⟨3, ?_⟩)))
  obtain ⟨hqr, hr, hnb, ht, htr, hW, h10, h10', hu, hu', hd, h9, h9'⟩ := hR
  have hw := ba_w_wf hk
  have hs := ba_ws_f hb1 hb2
  refine br_f (by decide) (ba_skip (by omega) 0 q (by omega) (fun j _ hj => hW.2.2 j (by omega) (by omega) (by omega)) (Or.inr ⟨by omega, by rw [hW.1]; exact hw.2.2.2⟩) (pk_lt q (3 * nb) (fun _ => br_f (by decide) (ba_pic (fun b13 b14 e13 e14 => ?_))) (fun z => absurd z (by omega)) rfl (by exact pk_mul 3 nb)))
  refine ba_alu q tt (by omega) ht hT hk hW.1 hw h10 hu hd ((e13 1 (by omega)).trans hx) ((e13 2 (by omega)).trans hy) h9 (Or.inr rfl) (nm_r (show (0 : Int32) + 1 = 1 by decide) (nm_r (show (0 : Int32) + 1 = 1 by decide) (br_f (by decide) ?_)))
  refine ba_skip (by omega) (q + 1) r (by omega) (fun j _ hj => hW.2.2 j (by omega) (by omega) (by omega)) (Or.inr ⟨hr, by rw [hW.2.1]; exact hs.1.2.2.2⟩) (pk_lt r (3 * nb) (fun _ => br_f (by decide) (ba_pic (fun c13 c14 d13 d14 => ?_))) (fun z => absurd z (by omega)) rfl (by exact pk_mul 3 nb))
  refine ba_store r tr (by omega) htr hT hW.2.1 hs.1 h10' hu' hs.2 ((d13 1 (by omega)).trans pk_us) ((d13 2 (by omega)).trans ((pk_un (by omega)).trans hy)) h9' (Or.inl rfl) (nm_r (show (1 : Int32) + 1 = 2 by decide) (nm_r (show (1 : Int32) + 1 = 2 by decide) (br_t (by decide) ?_)))
  exact H _ _ _ _ _ _ _ _ _ _ _ nb (r + 1) hnb (by omega) (fun j h h' => hW.2.2 j (by omega) (by omega) (by omega))
end
end
section
section
variable {f1 f2 f3 f4 f5 f6 f7 f8 f9 f10 f11 : Int32} {a1 a2 a3 a4 a5 a6 a7 a8 a9 a10 a11 a12 a13 a14 : Nat → Int32}
theorem ba_over {post : Int32 → St2 → Prop} (nb p : Nat) (hnb : nb ≤ 2) (hp : p ≤ 3 * nb) (hz : ∀ j, p ≤ j → j < 3 * nb → a8 j = 0) (H : post 1 (f1, nI nb, 1, f4, f5, f6, f7, f8, nI (3 * nb), f10, f11, a1, a2, a3, a4, a5, a6, a7, a8, a9, a10, a11, a12, a13, a14)) : wpX_over post (f1, nI nb, 1, f4, f5, f6, f7, f8, nI p, f10, f11, a1, a2, a3, a4, a5, a6, a7, a8, a9, a10, a11, a12, a13, a14) :=
  br_f (by decide) (ba_skip (by omega) p (3 * nb) hp hz (Or.inl rfl) (pk_lt (3 * nb) (3 * nb) (fun z => absurd z (by omega)) (fun _ => H) rfl (by exact pk_mul 3 nb)))
theorem ba_reg {post : Int32 → Prop} {v : Int32} (i : Nat) (hi : i < 8) (h : a11 i = v) (H : post v) : wpX_register post (f1, f2, f3, f4, f5, f6, f7, f8, f9, f10, f11, a1, a2, a3, a4, a5, a6, a7, a8, a9, a10, a11, a12, a13, a14) (nI i) := by
  subst h
  exact br_f (nI_pos (by omega)) (br_t (nI_le (b := 7) (by omega) (by decide)) (And.intro (pk_in i 8 hi) (by rw [nI_clamp (by omega)]; exact H)))
/-- cell: outside it is 0; inside what stands there -/
theorem ba_cellv {post : Int32 → Prop} {x v : Int32} (h : (∀ j, j < 16 → ¬ x = nI j) → v = 0) (h' : ∀ j, j < 16 → x = nI j → a12 j = v) (H : post v) : wpX_cell post (f1, f2, f3, f4, f5, f6, f7, f8, f9, f10, f11, a1, a2, a3, a4, a5, a6, a7, a8, a9, a10, a11, a12, a13, a14) x := by
  refine br_c (fun z => ?_) (fun z => br_c (fun z2 => ?_) (fun z2 => ?_))
  · rw [h (fun j hj e => by rw [e] at z; exact nI_pos (by omega) z)] at H
    exact H
  · obtain ⟨j, hj, e⟩ := nI_of2 (n := 15) (by decide) z z2
    refine And.intro (pk_in j 16 (by omega) e) ?_
    rw [e, nI_clamp (by omega), h' j (by omega) e]
    exact H
  · rw [h (fun j hj e => by rw [e] at z2; exact z2 (nI_le (b := 15) (by omega) (by decide)))] at H
    exact H
theorem ba_260 {post : Int32 → St0 → Prop} {mc ms kc ks : Nat} {z : Int32} (nb p : Nat) (hnb : nb ≤ 2) (hp : p ≤ 3 * nb) (hz : ∀ j, p ≤ j → j < 3 * nb → a8 j = 0) (H : post 1 ()) : wL_lawOf_260 post mc ms z z kc ks f1 (nI nb) 1 f4 f5 f6 f7 f8 (nI p) f10 f11 a1 a2 a3 a4 a5 a6 a7 a8 a9 a10 a11 a12 a13 a14 :=
  br_t rfl (ba_over nb p hnb hp hz (br_t rfl H))
theorem ba_187 {post : Int32 → St0 → Prop} {mc ms kc ks : Nat} {y b x4 v x9 zz : Int32} (nb p : Nat) (hnb : nb ≤ 2) (hp : p ≤ 3 * nb) (hz : ∀ j, p ≤ j → j < 3 * nb → a8 j = 0) (h1 : a11 1 = v) (h2 : a11 2 = y)
    (H0 : (x9 = 0 ∨ ¬ x4 = (y + b) &&& 15) → ∀ j, j < 16 → x4 = nI j → a12 j = 0) (H1 : ¬ x9 = 0 → x4 = (y + b) &&& 15 → ∀ j, j < 16 → x4 = nI j → a12 j = v) (H : post 1 ()) :
    wL_lawOf_187 post mc ms y b x4 v x9 zz zz kc ks f1 (nI nb) 1 f4 f5 f6 f7 f8 (nI p) f10 f11 a1 a2 a3 a4 a5 a6 a7 a8 a9 a10 a11 a12 a13 a14 := by
  refine br_t rfl (ba_reg 1 (by omega) h1 (br_t rfl (ba_reg 2 (by omega) h2 (br_t rfl (nm_e (br_c (fun c => ?_) (fun c => br_c (fun d => ?_) (fun d => ?_))))))))
  · unfold wL_lawOf_239 wL_lawOf_240
    exact ba_cellv (v := 0) (fun _ => rfl) (H0 (Or.inl c)) (br_t rfl (ba_260 nb p hnb hp hz H))
  · unfold wL_lawOf_240
    refine ba_cellv (v := v) (fun n => ?_) (H1 c d) (br_f (by decide) (ba_260 nb p hnb hp hz H))
    obtain ⟨j, hj, e⟩ := pk_andE (y + b) (m := 15) 4 (by decide)
    exact absurd (d.trans e) (n j hj)
  · unfold wL_lawOf_239 wL_lawOf_240
    exact ba_cellv (v := 0) (fun _ => rfl) (H0 (Or.inr d)) (br_t rfl (ba_260 nb p hnb hp hz H))
/-- the first emit -/
theorem ba_emit1 {post : Int32 → St2 → Prop} {k : Int32} (hk : ba_ok k) (H : ∀ r, post r (nI 1, f2, 0, f4, f5, f6, f7, f8, 0, 1, 0, upd a1 0 k, upd a2 0 1, upd a3 0 1, upd a4 0 2, a5, a6, a7, a8, a9, a10, a11, a12, a13, a14)) : wpX_emit post (0, f2, f3, f4, f5, f6, f7, f8, f9, f10, f11, a1, a2, a3, a4, a5, a6, a7, a8, a9, a10, a11, a12, a13, a14) k 1 1 2 := by
  have q : (¬ k < 0) ∧ k ≤ 10 ∧ k < 6 ∧ (¬ 6 ≤ k) ∧ k < 9 := by
    rcases hk with h | h | h | h | h | h <;> subst h <;> decide
  obtain ⟨q1, q2, q3, q4, q5⟩ := q
  refine br_f q1 (br_t q2 (br_f (by decide) (br_f (by decide) (br_f (by decide) (br_t (by decide) (br_t q3 ?_))))))
  unfold wX_emit_52
  refine br_f q4 (br_t q5 (br_f (by decide) (br_t (by decide) (br_f (by decide) ?_))))
  exact And.intro (pk_in 0 24 (by omega)) (nm_e (And.intro (pk_in 0 24 (by omega)) (nm_e (And.intro (pk_in 0 24 (by omega)) (nm_e (And.intro (pk_in 0 24 (by omega)) (nm_e (nm_r (show (0 : Int32) + 1 = nI 1 by decide) (H _)))))))))
/-- the second emit: the number fits -/
theorem ba_emitG {post : Int32 → St2 → Prop} {b : Int32} (h1 : ¬ b < (-128)) (h2 : ¬ 127 < b) (H : post 1 (nI 2, f2, 0, f4, f5, f6, f7, f8, 0, 1, 0, upd a1 1 8, upd a2 1 1, upd a3 1 2, upd a4 1 b, a5, a6, a7, a8, a9, a10, a11, a12, a13, a14)) : wpX_emit post (nI 1, f2, f3, f4, f5, f6, f7, f8, f9, f10, f11, a1, a2, a3, a4, a5, a6, a7, a8, a9, a10, a11, a12, a13, a14) 8 1 2 b := by
  refine br_f (by decide) (br_t (by decide) (br_f (by decide) (br_f (by decide) (br_f (by decide) (br_t (by decide) (br_f (by decide) (br_f (by decide) ?_)))))))
  refine br_t (by decide) (br_t (by decide) (br_f h1 (br_t (Int32.not_lt.mp h2) (br_f (by decide) ?_))))
  refine And.intro (pk_in 1 24 (by omega)) (nm_e (And.intro (pk_in 1 24 (by omega)) (nm_e (And.intro (pk_in 1 24 (by omega)) (nm_e (And.intro (pk_in 1 24 (by omega)) (nm_e (nm_r (show nI 1 + 1 = nI 2 by decide) ?_))))))))
  have e : nI 2 - 1 = 1 := by decide
  show post (nI 2 - 1) _
  rw [e]
  exact H
/-- the second emit: the number doesn't fit -/
theorem ba_emitB {post : Int32 → St2 → Prop} {b : Int32} (h : b < (-128) ∨ 127 < b) (H : post (-3) (f1, f2, f3, f4, f5, f6, f7, f8, f9, f10, f11, a1, a2, a3, a4, a5, a6, a7, a8, a9, a10, a11, a12, a13, a14)) : wpX_emit post (f1, f2, f3, f4, f5, f6, f7, f8, f9, f10, f11, a1, a2, a3, a4, a5, a6, a7, a8, a9, a10, a11, a12, a13, a14) 8 1 2 b := by
  refine br_f (by decide) (br_t (by decide) (br_f (by decide) (br_f (by decide) (br_f (by decide) (br_t (by decide) (br_f (by decide) (br_f (by decide) ?_)))))))
  refine br_t (by decide) (br_t (by decide) (br_c (fun _ => H) (fun z => br_f (fun z2 => ?_) H)))
  rcases h with h | h
  · exact z h
  · exact Int32.not_le.mpr h z2
theorem ba_143B {post : Int32 → St0 → Prop} {mc ms kc ks : Nat} {k b x y x4 : Int32} (hb : b < (-128) ∨ 127 < b) (hk : ba_ok k) (hT : ba_T a5) (h1 : a1 0 = k) (h2 : a2 0 = 1) (h3 : a3 0 = 1) (h4 : a4 0 = 2) (hx : a11 1 = x) (hy : a11 2 = y) (h12 : ∀ j, a12 j = 0) (H : post 1 ()) :
    wL_lawOf_143 post mc ms y b x4 (ba_val k x y) 0 kc ks (nI 1) f2 0 f4 f5 f6 f7 f8 0 1 f11 a1 a2 a3 a4 a5 a6 a7 a8 a9 a10 a11 a12 a13 a14 := by
  refine ba_emitB hb (br_t rfl (br_t rfl (ba_run1 hk hT h1 h2 h3 h4 hx hy (fun g5 g6 g7 g8 b6 b7 b8 b9 b10 b13 b14 nb hnb => br_t rfl ?_))))
  exact ba_187 nb (3 * nb) hnb (by omega) (fun j h h' => absurd h' (by omega)) pk_us ((pk_un (by omega)).trans hy) (fun _ j _ _ => h12 j) (fun c => absurd rfl c) H
theorem ba_143G {post : Int32 → St0 → Prop} {mc ms kc ks : Nat} {k b x y x4 : Int32} (hb1 : ¬ b < (-128)) (hb2 : ¬ 127 < b) (hk : ba_ok k) (hT : ba_T a5) (h1 : a1 0 = k) (h2 : a2 0 = 1) (h3 : a3 0 = 1) (h4 : a4 0 = 2) (hx : a11 1 = x) (hy : a11 2 = y) (h12 : ∀ j, a12 j = 0) (H : post 1 ()) :
    wL_lawOf_143 post mc ms y b x4 (ba_val k x y) 1 kc ks (nI 1) f2 0 f4 f5 f6 f7 f8 0 1 f11 a1 a2 a3 a4 a5 a6 a7 a8 a9 a10 a11 a12 a13 a14 := by
  refine ba_emitG hb1 hb2 (br_f (by decide) (br_t rfl (ba_run2 (k := k) (b := b) (x := x) (y := y) hk hb1 hb2 hT ((pk_un (by omega)).trans h1) ((pk_un (by omega)).trans h2) ((pk_un (by omega)).trans h3) ((pk_un (by omega)).trans h4) pk_us pk_us pk_us pk_us hx hy (fun g5 g6 g7 g8 b6 b7 b8 b9 b10 b13 b14 nb p hnb hp hz => br_f (by decide) ?_))))
  obtain ⟨i, hi, e⟩ := pk_andE (y + b) (m := 15) 4 (by decide)
  have hi' : i < 16 := hi
  refine ba_187 nb p hnb hp hz pk_us ((pk_un (by omega)).trans hy) (fun c j hj ej => ?_) (fun _ d j hj ej => ?_) H
  · rcases c with c | c
    · exact absurd c (by decide)
    · rw [e, nI_clamp (by omega), pk_un (fun z => c (by rw [ej, e, z]))]
      exact h12 j
  · have ij : j = i := (nI_eq (by omega) (by omega)).mp (ej.symm.trans (d.trans e))
    rw [e, nI_clamp (by omega), ij, pk_us]
theorem ba_126 {post : Int32 → St0 → Prop} {mc ms kc ks : Nat} {k b x y x4 v : Int32} (hv : v = ba_val k x y) (hk : ba_ok k) (hT : ba_T a5) (h1 : a1 0 = k) (h2 : a2 0 = 1) (h3 : a3 0 = 1) (h4 : a4 0 = 2) (hx : a11 1 = x) (hy : a11 2 = y) (h12 : ∀ j, a12 j = 0) (H : post 1 ()) :
    wL_lawOf_126 post mc ms y b x4 v kc ks (nI 1) f2 0 f4 f5 f6 f7 f8 0 1 f11 a1 a2 a3 a4 a5 a6 a7 a8 a9 a10 a11 a12 a13 a14 := by
  subst hv
  refine br_c (fun c => ?_) (fun c => br_c (fun d => ?_) (fun d => ba_143G c d hk hT h1 h2 h3 h4 hx hy h12 H))
  · unfold wL_lawOf_142
    exact ba_143B (Or.inl c) hk hT h1 h2 h3 h4 hx hy h12 H
  · unfold wL_lawOf_142
    exact ba_143B (Or.inr d) hk hT h1 h2 h3 h4 hx hy h12 H
theorem ba_51 {post : Int32 → St0 → Prop} {mc ms kc ks : Nat} {k b x y x4 : Int32} (hk : ba_ok k) (hT : ba_T a5) (hx : a11 1 = x) (hy : a11 2 = y) (h12 : ∀ j, a12 j = 0) (H : post 1 ()) :
    wL_lawOf_51 post mc ms x y b x4 k kc ks 0 f2 f3 f4 f5 f6 f7 f8 f9 f10 f11 a1 a2 a3 a4 a5 a6 a7 a8 a9 a10 a11 a12 a13 a14 := by
  refine ba_emit1 hk (fun r => nm_e ?_)
  have K : ∀ v, v = ba_val k x y → wL_lawOf_126 post mc ms y b x4 v kc ks (nI 1) f2 0 f4 f5 f6 f7 f8 0 1 0 (upd a1 0 k) (upd a2 0 1) (upd a3 0 1) (upd a4 0 2) a5 a6 a7 a8 a9 a10 a11 a12 a13 a14 := fun v hv => ba_126 hv hk hT pk_us pk_us pk_us pk_us hx hy h12 H
  rcases hk with h | h | h | h | h | h <;> subst h
  · exact br_t rfl (nm_e (br_f (by decide) (br_f (by decide) (br_f (by decide) (br_f (by decide) (K _ (if_pos rfl).symm))))))
  · exact br_f (by decide) (br_t rfl (nm_e (br_f (by decide) (br_f (by decide) (br_f (by decide) (K _ (by unfold ba_val; rw [if_neg (by decide), if_pos rfl])))))))
  · exact br_f (by decide) (br_f (by decide) (br_t rfl (nm_e (br_f (by decide) (br_f (by decide) (K _ (by unfold ba_val; rw [if_neg (by decide), if_neg (by decide), if_pos rfl])))))))
  · exact br_f (by decide) (br_f (by decide) (br_f (by decide) (br_f (by decide) (br_f (by decide) (K _ (by unfold ba_val; rw [if_neg (by decide), if_neg (by decide), if_neg (by decide), if_pos rfl]))))))
  · exact br_f (by decide) (br_f (by decide) (br_f (by decide) (br_t rfl (nm_e (br_f (by decide) (K _ (by unfold ba_val; rw [if_neg (by decide), if_neg (by decide), if_neg (by decide), if_neg (by decide), if_pos rfl])))))))
  · exact br_f (by decide) (br_f (by decide) (br_f (by decide) (br_f (by decide) (br_t rfl (nm_e (K _ (by unfold ba_val; rw [if_neg (by decide), if_neg (by decide), if_neg (by decide), if_neg (by decide), if_neg (by decide)])))))))
end
theorem ba_ok_of {k : Int32} (h : ¬ k < 0) (h' : ¬ 5 < k) : ba_ok k := by
  obtain ⟨j, hj, e⟩ := nI_of2 (n := 5) (by decide) h (Int32.not_lt.mp h')
  have c : j = 0 ∨ j = 1 ∨ j = 2 ∨ j = 3 ∨ j = 4 ∨ j = 5 := by omega
  rcases c with c | c | c | c | c | c <;> subst c <;> subst e
  · exact Or.inl rfl
  · exact Or.inr (Or.inl rfl)
  · exact Or.inr (Or.inr (Or.inl rfl))
  · exact Or.inr (Or.inr (Or.inr (Or.inl rfl)))
  · exact Or.inr (Or.inr (Or.inr (Or.inr (Or.inl rfl))))
  · exact Or.inr (Or.inr (Or.inr (Or.inr (Or.inr rfl))))
theorem ba_init {post : St2 → Prop} {mc ms : Nat} (hm : 14 ≤ mc) (hs : 367 ≤ ms) (H : ∀ T : Nat → Int32, ba_T T → post (0, 0, 0, 0, 0, 0, 0, 0, 0, 0, 0, (fun _ => 0), (fun _ => 0), (fun _ => 0), (fun _ => 0), T, (fun _ => 0), (fun _ => 0), (fun _ => 0), (fun _ => 0), (fun _ => 0), (fun _ => 0), (fun _ => 0), (fun _ => 0), (fun _ => 0))) :
    wpX_init post mc ms (0, 0, 0, 0, 0, 0, 0, 0, 0, 0, 0) := by
  unfold wpX_init
  dsimp only
  refine ⟨by omega, by omega, by omega, by omega, by omega, by omega, by omega, by omega, by omega, by omega, by omega, by omega, by omega, by omega, by omega, by omega, by omega, by omega, by omega, by omega, by omega, by omega, by omega, by omega, by omega, by omega, by omega, by omega, ?_⟩
  refine nm_e (nm_e (nm_e (nm_e (nm_e (nm_e (H _ ?_))))))
  intro t ht
  have c : t = 0 ∨ t = 1 ∨ t = 2 ∨ t = 3 ∨ t = 4 ∨ t = 5 := by omega
  rcases c with c | c | c | c | c | c <;> subst c <;> rfl
section
variable {f1 f2 f3 f4 f5 f6 f7 f8 f9 f10 f11 : Int32} {a1 a2 a3 a4 a5 a6 a7 a8 a9 a10 a11 a12 a13 a14 : Nat → Int32}
theorem ba_set {post : Int32 → St2 → Prop} {v : Int32} (i : Nat) (hi : i < 8) (H : ∀ r, post r (f1, f2, f3, f4, f5, f6, f7, f8, f9, 1, f11, a1, a2, a3, a4, a5, a6, a7, a8, a9, a10, upd a11 i v, a12, a13, a14)) : wpX_setRegister post (f1, f2, f3, f4, f5, f6, f7, f8, f9, f10, f11, a1, a2, a3, a4, a5, a6, a7, a8, a9, a10, a11, a12, a13, a14) (nI i) v :=
  br_f (nI_pos (by omega)) (br_t (nI_le (b := 7) (by omega) (by decide)) (And.intro (pk_in i 8 hi) (nm_r (by rw [nI_clamp (by omega)]) (H _))))
end
theorem ba_lawOf {post : Int32 → St0 → Prop} {x y k b x4 : Int32} (H : post 1 ()) : wpL_lawOf post 190 3040 () x y k b x4 := by
  refine And.intro (by omega) (And.intro (by omega) ⟨100, 1000, by omega, by omega, ba_init (by omega) (by omega) (fun T hT => ba_set 1 (by omega) (fun _ => ba_set 2 (by omega) (fun _ => br_c (fun c => ?_) (fun c => br_c (fun d => ?_) (fun d => ?_)))))⟩)
  · unfold wL_lawOf_38
    exact br_t rfl (ba_51 (Or.inr (Or.inr (Or.inr (Or.inl rfl)))) hT ((pk_un (by omega)).trans pk_us) pk_us (fun _ => rfl) H)
  · unfold wL_lawOf_38
    exact br_t rfl (ba_51 (Or.inr (Or.inr (Or.inr (Or.inl rfl)))) hT ((pk_un (by omega)).trans pk_us) pk_us (fun _ => rfl) H)
  · exact br_f (by decide) (ba_51 (ba_ok_of c d) hT ((pk_un (by omega)).trans pk_us) pk_us (fun _ => rfl) H)
end
section
theorem i_vc (xs : Nat → Int32) (L : Nat) (hL : L ≤ 5) : wpL_law (fun r => r = 1) L xs :=
  ba_cellAt 0 (by omega) hL rfl (fun _ => ba_cellAt 1 (by omega) hL rfl (fun _ => ba_cellAt 2 (by omega) hL rfl (fun _ => ba_cellAt 3 (by omega) hL rfl (fun _ => ba_cellAt 4 (by omega) hL rfl (fun _ => ⟨190, 3040, by omega, by omega, ba_lawOf rfl⟩)))))
end
