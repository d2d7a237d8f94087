section
/-! ConditionEscrow: the picture. Rows printed by gen.py out of tpl/. -/
theorem qz_v0 (n : Nat) (h : 0 < n := by omega) (hn : n < 2 ^ 31 := by omega) : vp_in 0 n := vp_in_nI h hn
theorem qz_v1 (n : Nat) (h : 1 < n := by omega) (hn : n < 2 ^ 31 := by omega) : vp_in 1 n := vp_in_nI h hn
theorem qz_OZ : (1 : Int32).toNatClampNeg ≠ (0 : Int32).toNatClampNeg := by decide
theorem qz_ZO : (0 : Int32).toNatClampNeg ≠ (1 : Int32).toNatClampNeg := by decide
theorem qz_nb1 : vp_nar .boolean 1 = 1 := by decide
theorem qz_nb0 : vp_nar .boolean 0 = 0 := by decide
/-- facts on the arrays: node 0 a signer 0, node 1 an after 5, no links; deal 0 if there is one -/
def qz_F (D am T0 T1 st B0 B1 wt : Int32) (a1 a2 a6 a7 a8 a12 a13 a14 a15 a16 a17 a18 a19 : Nat → Int32) : Prop :=
  a1 (0 : Int32).toNatClampNeg = 0 ∧ a1 (1 : Int32).toNatClampNeg = 1 ∧ a2 (0 : Int32).toNatClampNeg = 0 ∧ a2 (1 : Int32).toNatClampNeg = 5 ∧ a7 (0 : Int32).toNatClampNeg = -1 ∧ a7 (1 : Int32).toNatClampNeg = -1 ∧ a8 (0 : Int32).toNatClampNeg = D ∧ a8 (1 : Int32).toNatClampNeg = D ∧
  a6 (0 : Int32).toNatClampNeg = T0 ∧ a6 (1 : Int32).toNatClampNeg = T1 ∧
  (D = 1 → a12 (0 : Int32).toNatClampNeg = 0 ∧ a13 (0 : Int32).toNatClampNeg = 1 ∧ a14 (0 : Int32).toNatClampNeg = am ∧ a15 (0 : Int32).toNatClampNeg = 0 ∧ a16 (0 : Int32).toNatClampNeg = 1 ∧ a17 (0 : Int32).toNatClampNeg = st) ∧
  a18 (0 : Int32).toNatClampNeg = B0 ∧ a18 (1 : Int32).toNatClampNeg = B1 ∧ a19 (0 : Int32).toNatClampNeg = wt ∧ a19 (1 : Int32).toNatClampNeg = 0
/-- Q holds of every state of the picture -/
def qz_K (Q : St2 → Prop) (D am : Int32) (e : Nat) (dp mk dt tc mv td T0 T1 st B0 B1 wt : Int32) : Prop :=
  ∀ (f3 f7 f13 f14 : Int32) (a1 a2 a3 a4 a5 a6 a7 a8 a9 a10 a11 a12 a13 a14 a15 a16 a17 a18 a19 a20 a21 a22 a23 a24 a25 a26 : Nat → Int32),
    qz_F D am T0 T1 st B0 B1 wt a1 a2 a6 a7 a8 a12 a13 a14 a15 a16 a17 a18 a19 → Q (2, 2, f3, D, (nI e), dp, f7, mk, dt, tc, mv, td, f13, f14, a1, a2, a3, a4, a5, a6, a7, a8, a9, a10, a11, a12, a13, a14, a15, a16, a17, a18, a19, a20, a21, a22, a23, a24, a25, a26)
end
section
/-! enter: the tree's arrays are of no interest -/
theorem qz_e145 {post : St2 → Prop} {f1 f2 f3 f4 f6 f7 f8 f9 f10 f11 f12 f13 f14 : Int32} {a1 a2 a3 a4 a5 a6 a7 a8 a9 a10 a11 a12 a13 a14 a15 a16 a17 a18 a19 a20 a21 a22 a23 a24 : Nat → Int32} {e b : Nat} (m : Nat) (a25 a26 : Nat → Int32) (hb : b ≤ 512) (hm : m ≤ 127)
    (hp : ∀ a25 a26, post (f1, f2, f3, f4, nI (e + 1), f6, f7, f8, f9, f10, f11, f12, f13, f14, a1, a2, a3, a4, a5, a6, a7, a8, a9, a10, a11, a12, a13, a14, a15, a16, a17, a18, a19, a20, a21, a22, a23, a24, a25, a26)) :
    ∃ n, wX_enter_145 post (nI b) f1 f2 f3 f4 (nI e) f6 f7 f8 f9 f10 f11 f12 f13 f14 n (nI m) 0 a1 a2 a3 a4 a5 a6 a7 a8 a9 a10 a11 a12 a13 a14 a15 a16 a17 a18 a19 a20 a21 a22 a23 a24 a25 a26 :=
  pk_loop (fun n i (s : Nat × (Nat → Int32) × (Nat → Int32)) => wX_enter_145 post (nI b) f1 f2 f3 f4 (nI e) f6 f7 f8 f9 f10 f11 f12 f13 f14 n (nI s.1) (nI i) a1 a2 a3 a4 a5 a6 a7 a8 a9 a10 a11 a12 a13 a14 a15 a16 a17 a18 a19 a20 a21 a22 a23 a24 s.2.1 s.2.2)
    (fun _ s => s.1 ≤ 127) 6 0 (m, a25, a26) (by omega) hm
    (fun n s h => pk_le 6 6 (fun _ => nm_r (nI_1 e) (hp _ _)) (fun z => absurd z (by omega)))
    (fun n i s hi h hw => by
      have h' : s.1 ≤ 127 := h
      have e1 : nI s.1 >>> ((1 : Int32) &&& 31) = nI (s.1 / 2) := pk_shrN (by omega) _ 1 (by decide)
      have e2 : nI b + (2 * nI (s.1 / 2)) = nI (b + 2 * (s.1 / 2)) := by
        rw [show (2 : Int32) = nI 2 from rfl, pk_mul, nI_add]
      have v1 : vp_in (nI (b + 2 * (s.1 / 2))) 768 := vp_in_nI (by omega) (by omega)
      have v2 : vp_in (nI (b + 2 * (s.1 / 2)) + 1) 768 := by
        rw [nI_1]
        exact vp_in_nI (by omega) (by omega)
      have v3 : vp_in (nI b + nI (s.1 / 2)) 768 := by
        rw [nI_add]
        exact vp_in_nI (by omega) (by omega)
      have h2 : s.1 / 2 ≤ 127 := by omega
      refine pk_le 6 i (fun z => absurd z (by omega)) (fun _ => nm_r e1 (nm_r e2 ⟨v1, v2, nm_e ⟨v1, v2, v3, nm_e ⟨v1, br_c (fun _ => ⟨v3, nm_e (nm_r (nI_1 i) ?_)⟩) (fun _ => ⟨v1, v3, nm_e (nm_r (nI_1 i) ?_)⟩)⟩⟩⟩))
      · exact hw (s.1 / 2, _, _) h2
      · exact hw (s.1 / 2, _, _) h2)
theorem qz_e11 {post : St2 → Prop} {x1 x2 x3 x4 z0 : Int32} {f1 f2 f3 f4 f6 f7 f8 f9 f10 f11 f12 f13 f14 : Int32} {a1 a2 a3 a4 a5 a6 a7 a8 a9 a10 a11 a12 a13 a14 a15 a16 a17 a18 a19 a20 a21 a22 a23 a24 a25 a26 : Nat → Int32} {e : Nat} (b : Nat) (hv : vp_in x2 6) (hx : x2 * 128 = nI b) (hb : b ≤ 512) (he : e < 64)
    (hp : ∀ a20 a21 a22 a23 a24 a25 a26, post (f1, f2, f3, f4, nI (e + 1), f6, f7, f8, f9, f10 ||| a19 x2.toNatClampNeg, f11, f12, f13, f14, a1, a2, a3, a4, a5, a6, a7, a8, a9, a10, a11, a12, a13, a14, a15, a16, a17, upd a18 x2.toNatClampNeg (a18 x2.toNatClampNeg + z0), a19, a20, a21, a22, a23, a24, a25, a26)) :
    wX_enter_11 post x1 x2 x3 x4 z0 f1 f2 f3 f4 (nI e) f6 f7 f8 f9 f10 f11 f12 f13 f14 a1 a2 a3 a4 a5 a6 a7 a8 a9 a10 a11 a12 a13 a14 a15 a16 a17 a18 a19 a20 a21 a22 a23 a24 a25 a26 := by
  have v5 : vp_in (nI e) 64 := vp_in_nI he (by omega)
  have w : vp_in (nI b + nI (64 + e)) 768 := by
    rw [nI_add]
    exact vp_in_nI (by omega) (by omega)
  exact And.intro v5 (nm_e ⟨v5, nm_e ⟨v5, nm_e ⟨v5, nm_e ⟨v5, nm_e ⟨hv, hv, nm_e ⟨hv, nm_e (nm_r hx (nm_r (nI_add 64 e) ⟨w, nm_e (br_c
    (fun _ => ⟨w, nm_e (qz_e145 (64 + e) _ _ hb (by omega) (fun _ _ => hp _ _ _ _ _ _ _))⟩)
    (fun _ => ⟨w, nm_e (qz_e145 (64 + e) _ _ hb (by omega) (fun _ _ => hp _ _ _ _ _ _ _))⟩))⟩))⟩⟩⟩⟩⟩⟩)
/-- an entry of account 0, kind not FUND -/
theorem qz_en0 {post : St2 → Prop} {D am dp mk dt tc mv td T0 T1 st B0 B1 wt : Int32} {e : Nat} {kd x dl tc' : Int32} (hk : ¬ kd = 1) (he : e < 64) (ht : tc ||| wt = tc')
    (hp : qz_K post D am (e + 1) dp mk dt tc' mv td T0 T1 st (B0 + x) B1 wt) : qz_K (fun u => wpX_enter post u kd 0 x dl) D am e dp mk dt tc mv td T0 T1 st B0 B1 wt := by
  intro f3 f7 f13 f14 a1 a2 a3 a4 a5 a6 a7 a8 a9 a10 a11 a12 a13 a14 a15 a16 a17 a18 a19 a20 a21 a22 a23 a24 a25 a26 hF
  obtain ⟨c10, c11, c20, c21, c70, c71, c80, c81, c60, c61, cD, cB0, cB1, cW0, cW1⟩ := hF
  refine br_f hk (qz_e11 0 (qz_v0 6) (by decide) (by omega) he (fun _ _ _ _ _ _ _ => ?_))
  rw [cW0, ht, cB0]
  exact hp _ _ _ _ _ _ _ _ _ _ _ _ _ _ _ _ _ _ _ _ _ _ _ _ _ _ _ _ _ _ ⟨c10, c11, c20, c21, c70, c71, c80, c81, c60, c61, cD, pk_us, (pk_un qz_OZ).trans cB1, cW0, cW1⟩
/-- an entry of account 0, kind FUND -/
theorem qz_en1 {post : St2 → Prop} {D am dp mk dt tc mv td T0 T1 st B0 B1 wt : Int32} {e : Nat} {x dl tc' : Int32} (he : e < 64) (ht : tc ||| wt = tc')
    (hp : qz_K post D am (e + 1) dp mk dt tc' mv td T0 T1 st (B0 + -x) B1 wt) : qz_K (fun u => wpX_enter post u 1 0 x dl) D am e dp mk dt tc mv td T0 T1 st B0 B1 wt := by
  intro f3 f7 f13 f14 a1 a2 a3 a4 a5 a6 a7 a8 a9 a10 a11 a12 a13 a14 a15 a16 a17 a18 a19 a20 a21 a22 a23 a24 a25 a26 hF
  obtain ⟨c10, c11, c20, c21, c70, c71, c80, c81, c60, c61, cD, cB0, cB1, cW0, cW1⟩ := hF
  refine br_t rfl (qz_e11 0 (qz_v0 6) (by decide) (by omega) he (fun _ _ _ _ _ _ _ => ?_))
  rw [cW0, ht, cB0]
  exact hp _ _ _ _ _ _ _ _ _ _ _ _ _ _ _ _ _ _ _ _ _ _ _ _ _ _ _ _ _ _ ⟨c10, c11, c20, c21, c70, c71, c80, c81, c60, c61, cD, pk_us, (pk_un qz_OZ).trans cB1, cW0, cW1⟩
/-- an entry of account 1, kind not FUND -/
theorem qz_en2 {post : St2 → Prop} {D am dp mk dt tc mv td T0 T1 st B0 B1 wt : Int32} {e : Nat} {kd x dl tc' : Int32} (hk : ¬ kd = 1) (he : e < 64) (ht : tc ||| 0 = tc')
    (hp : qz_K post D am (e + 1) dp mk dt tc' mv td T0 T1 st B0 (B1 + x) wt) : qz_K (fun u => wpX_enter post u kd 1 x dl) D am e dp mk dt tc mv td T0 T1 st B0 B1 wt := by
  intro f3 f7 f13 f14 a1 a2 a3 a4 a5 a6 a7 a8 a9 a10 a11 a12 a13 a14 a15 a16 a17 a18 a19 a20 a21 a22 a23 a24 a25 a26 hF
  obtain ⟨c10, c11, c20, c21, c70, c71, c80, c81, c60, c61, cD, cB0, cB1, cW0, cW1⟩ := hF
  refine br_f hk (qz_e11 128 (qz_v1 6) (by decide) (by omega) he (fun _ _ _ _ _ _ _ => ?_))
  rw [cW1, ht, cB1]
  exact hp _ _ _ _ _ _ _ _ _ _ _ _ _ _ _ _ _ _ _ _ _ _ _ _ _ _ _ _ _ _ ⟨c10, c11, c20, c21, c70, c71, c80, c81, c60, c61, cD, (pk_un qz_ZO).trans cB0, pk_us, cW0, cW1⟩
end
section
/-- deal 0 can't move / can move -/
def qz_no (am st B0 T0 T1 : Int32) : Prop := (st = 1 ∧ B0 < am) ∨ (st = 2 ∧ T0 = 0 ∧ T1 = 0) ∨ st = 3 ∨ st = 4
def qz_ya (am st B0 T0 T1 : Int32) : Prop := (st = 1 ∧ ¬ B0 < am) ∨ (st = 2 ∧ ¬ T0 = 0) ∨ (st = 2 ∧ T0 = 0 ∧ ¬ T1 = 0)
theorem qz_cm0 {post : Int32 → Prop} {am dp mk dt tc mv td T0 T1 st B0 B1 wt : Int32} {e : Nat} {f3 f7 f13 f14 : Int32} {a1 a2 a3 a4 a5 a6 a7 a8 a9 a10 a11 a12 a13 a14 a15 a16 a17 a18 a19 a20 a21 a22 a23 a24 a25 a26 : Nat → Int32} (nm : qz_no am st B0 T0 T1) (hF : qz_F 1 am T0 T1 st B0 B1 wt a1 a2 a6 a7 a8 a12 a13 a14 a15 a16 a17 a18 a19) (hp : post 0) : wpX_canMove post (2, 2, f3, 1, (nI e), dp, f7, mk, dt, tc, mv, td, f13, f14, a1, a2, a3, a4, a5, a6, a7, a8, a9, a10, a11, a12, a13, a14, a15, a16, a17, a18, a19, a20, a21, a22, a23, a24, a25, a26) 0 := by
  obtain ⟨c10, c11, c20, c21, c70, c71, c80, c81, c60, c61, cD, cB0, cB1, cW0, cW1⟩ := hF
  obtain ⟨c12, c13, c14, c15, c16, c17⟩ := cD rfl
  rcases nm with ⟨rfl, hl⟩ | ⟨rfl, rfl, rfl⟩ | rfl | rfl
  · exact And.intro (qz_v0 12) (br_t c17 ⟨qz_v0 12, by rw [c12]; exact qz_v0 6, qz_v0 12, br_t (by rw [c12, cB0, c14]; exact hl) hp⟩)
  · exact And.intro (qz_v0 12) (br_f (by rw [c17]; decide) ⟨qz_v0 12, br_t c17 ⟨qz_v0 12, by rw [c15]; exact qz_v0 24, br_t (by rw [c15]; exact c60) ⟨qz_v0 12, by rw [c16]; exact qz_v1 24, br_t (by rw [c16]; exact c61) hp⟩⟩⟩)
  · exact And.intro (qz_v0 12) (br_f (by rw [c17]; decide) ⟨qz_v0 12, br_f (by rw [c17]; decide) hp⟩)
  · exact And.intro (qz_v0 12) (br_f (by rw [c17]; decide) ⟨qz_v0 12, br_f (by rw [c17]; decide) hp⟩)
theorem qz_cm1 {post : Int32 → Prop} {am dp mk dt tc mv td T0 T1 st B0 B1 wt : Int32} {e : Nat} {f3 f7 f13 f14 : Int32} {a1 a2 a3 a4 a5 a6 a7 a8 a9 a10 a11 a12 a13 a14 a15 a16 a17 a18 a19 a20 a21 a22 a23 a24 a25 a26 : Nat → Int32} (ym : qz_ya am st B0 T0 T1) (hF : qz_F 1 am T0 T1 st B0 B1 wt a1 a2 a6 a7 a8 a12 a13 a14 a15 a16 a17 a18 a19) (hp : post 1) : wpX_canMove post (2, 2, f3, 1, (nI e), dp, f7, mk, dt, tc, mv, td, f13, f14, a1, a2, a3, a4, a5, a6, a7, a8, a9, a10, a11, a12, a13, a14, a15, a16, a17, a18, a19, a20, a21, a22, a23, a24, a25, a26) 0 := by
  obtain ⟨c10, c11, c20, c21, c70, c71, c80, c81, c60, c61, cD, cB0, cB1, cW0, cW1⟩ := hF
  obtain ⟨c12, c13, c14, c15, c16, c17⟩ := cD rfl
  rcases ym with ⟨rfl, hl⟩ | ⟨rfl, h0⟩ | ⟨rfl, rfl, h1⟩
  · exact And.intro (qz_v0 12) (br_t c17 ⟨qz_v0 12, by rw [c12]; exact qz_v0 6, qz_v0 12, br_f (by rw [c12, cB0, c14]; exact hl) hp⟩)
  · exact And.intro (qz_v0 12) (br_f (by rw [c17]; decide) ⟨qz_v0 12, br_t c17 ⟨qz_v0 12, by rw [c15]; exact qz_v0 24, br_f (by rw [c15, c60]; exact h0) hp⟩⟩)
  · exact And.intro (qz_v0 12) (br_f (by rw [c17]; decide) ⟨qz_v0 12, br_t c17 ⟨qz_v0 12, by rw [c15]; exact qz_v0 24, br_t (by rw [c15]; exact c60) ⟨qz_v0 12, by rw [c16]; exact qz_v1 24, br_f (by rw [c16, c61]; exact h1) hp⟩⟩⟩)
/-! refresh -/
theorem qz_rf0 {post : St2 → Prop} {am dp mk dt tc mv td T0 T1 st B0 B1 wt : Int32} {e : Nat} (hp : qz_K post 0 am e dp mk dt 0 mv td T0 T1 st B0 B1 wt) : qz_K (wpX_refresh post) 0 am e dp mk dt tc mv td T0 T1 st B0 B1 wt := by
  intro f3 f7 f13 f14 a1 a2 a3 a4 a5 a6 a7 a8 a9 a10 a11 a12 a13 a14 a15 a16 a17 a18 a19 a20 a21 a22 a23 a24 a25 a26 hF
  exact Exists.intro (0 + 1) (br_t (by decide) (hp _ _ _ _ _ _ _ _ _ _ _ _ _ _ _ _ _ _ _ _ _ _ _ _ _ _ _ _ _ _ hF))
theorem qz_rfT {post : St2 → Prop} {am dp mk dt mv td T0 T1 st B0 B1 wt : Int32} {e : Nat} (hp : qz_K post 1 am e dp mk dt 0 mv td T0 T1 st B0 B1 wt) : qz_K (wpX_refresh post) 1 am e dp mk dt 0 mv td T0 T1 st B0 B1 wt := by
  intro f3 f7 f13 f14 a1 a2 a3 a4 a5 a6 a7 a8 a9 a10 a11 a12 a13 a14 a15 a16 a17 a18 a19 a20 a21 a22 a23 a24 a25 a26 hF
  exact Exists.intro (0 + 1 + 1) (br_f (by decide) (nm_r (e' := 1) (by decide) (br_t (by decide) (nm_r (e' := 1) (by decide) (br_t (by decide) (hp _ _ _ _ _ _ _ _ _ _ _ _ _ _ _ _ _ _ _ _ _ _ _ _ _ _ _ _ _ _ hF))))))
theorem qz_rfC {post : St2 → Prop} {am dp mk dt mv td T0 T1 st B0 B1 wt : Int32} {e : Nat} (nm : qz_no am st B0 T0 T1) (hm : mv &&& ((1 : Int32) ^^^ (-1)) = 0) (hp : qz_K post 1 am e dp mk dt 0 0 td T0 T1 st B0 B1 wt) : qz_K (wpX_refresh post) 1 am e dp mk dt 1 mv td T0 T1 st B0 B1 wt := by
  intro f3 f7 f13 f14 a1 a2 a3 a4 a5 a6 a7 a8 a9 a10 a11 a12 a13 a14 a15 a16 a17 a18 a19 a20 a21 a22 a23 a24 a25 a26 hF
  exact Exists.intro (0 + 1 + 1) (br_f (by decide) (nm_r (e' := 1) (by decide) (br_f (by decide) (qz_cm0 nm hF (br_t rfl (nm_r hm (nm_r (e' := 1) (by decide) (br_t (by decide) (hp _ _ _ _ _ _ _ _ _ _ _ _ _ _ _ _ _ _ _ _ _ _ _ _ _ _ _ _ _ _ hF)))))))))
theorem qz_rfM {post : St2 → Prop} {am dp mk dt td T0 T1 st B0 B1 wt : Int32} {e : Nat} (ym : qz_ya am st B0 T0 T1) (hp : qz_K post 1 am e dp mk dt 0 1 td T0 T1 st B0 B1 wt) : qz_K (wpX_refresh post) 1 am e dp mk dt 1 0 td T0 T1 st B0 B1 wt := by
  intro f3 f7 f13 f14 a1 a2 a3 a4 a5 a6 a7 a8 a9 a10 a11 a12 a13 a14 a15 a16 a17 a18 a19 a20 a21 a22 a23 a24 a25 a26 hF
  exact Exists.intro (0 + 1 + 1) (br_f (by decide) (nm_r (e' := 1) (by decide) (br_f (by decide) (qz_cm1 ym hF (br_f (by decide) (nm_r (e' := 1) (by decide) (nm_r (e' := 1) (by decide) (br_t (by decide) (hp _ _ _ _ _ _ _ _ _ _ _ _ _ _ _ _ _ _ _ _ _ _ _ _ _ _ _ _ _ _ hF)))))))))
/-! makeMove -/
theorem qz_mm1 {post : St2 → Prop} {am dp mk dt mv td T0 T1 B0 B1 : Int32} {e : Nat} (he : e < 64) (hp : qz_K post 1 am (e + 1) dp mk dt 1 mv td T0 T1 2 (B0 + -am) B1 0) :
    qz_K (fun u => wpX_makeMove post u 0) 1 am e dp mk dt 0 mv td T0 T1 1 B0 B1 1 := by
  intro f3 f7 f13 f14 a1 a2 a3 a4 a5 a6 a7 a8 a9 a10 a11 a12 a13 a14 a15 a16 a17 a18 a19 a20 a21 a22 a23 a24 a25 a26 hF
  obtain ⟨c10, c11, c20, c21, c70, c71, c80, c81, c60, c61, cD, cB0, cB1, cW0, cW1⟩ := hF
  obtain ⟨c12, c13, c14, c15, c16, c17⟩ := cD rfl
  refine nm_r (e' := 1) (by decide) ⟨qz_v0 12, nm_r c12 (nm_r (e' := 1) (by decide) ⟨qz_v0 12, br_t c17 ⟨qz_v0 12, nm_e ⟨qz_v0 6, qz_v0 6,
    nm_r (e' := upd a19 (0 : Int32).toNatClampNeg 0) (congrArg (upd a19 _) (by rw [cW0]; decide)) ⟨qz_v0 12, nm_e ⟨qz_v0 12, ?_⟩⟩⟩⟩⟩)⟩
  rw [c14]
  refine qz_en1 (tc' := 1) (wt := 0) (B0 := B0) (am := am) (B1 := B1) (T0 := T0) (T1 := T1) (st := 2) he (by decide) ?_ _ _ _ _ _ _ _ _ _ _ _ _ _ _ _ _ _ _ _ _ _ _ _ _ _ _ _ _ _ _ ⟨c10, c11, c20, c21, c70, c71, c80, c81, c60, c61, fun _ => ⟨c12, c13, c14, c15, c16, pk_us⟩, cB0, cB1, pk_us, (pk_un qz_OZ).trans cW1⟩
  intro f3 f7 f13 f14 a1 a2 a3 a4 a5 a6 a7 a8 a9 a10 a11 a12 a13 a14 a15 a16 a17 a18 a19 a20 a21 a22 a23 a24 a25 a26 h
  exact hp _ _ _ _ _ _ _ _ _ _ _ _ _ _ _ _ _ _ _ _ _ _ _ _ _ _ _ _ _ _ h
theorem qz_mm2 {post : St2 → Prop} {am dp mk dt mv td T0 T1 B0 B1 wt : Int32} {e : Nat} (he : e < 64) (h0 : ¬ T0 = 0) (hp : qz_K post 1 am (e + 1) dp mk dt 1 mv td T0 T1 3 B0 (B1 + am) wt) :
    qz_K (fun u => wpX_makeMove post u 0) 1 am e dp mk dt 0 mv td T0 T1 2 B0 B1 wt := by
  intro f3 f7 f13 f14 a1 a2 a3 a4 a5 a6 a7 a8 a9 a10 a11 a12 a13 a14 a15 a16 a17 a18 a19 a20 a21 a22 a23 a24 a25 a26 hF
  obtain ⟨c10, c11, c20, c21, c70, c71, c80, c81, c60, c61, cD, cB0, cB1, cW0, cW1⟩ := hF
  obtain ⟨c12, c13, c14, c15, c16, c17⟩ := cD rfl
  refine nm_r (e' := 1) (by decide) ⟨qz_v0 12, nm_r c12 (nm_r (e' := 1) (by decide) ⟨qz_v0 12, br_f (by rw [c17]; decide) ⟨qz_v0 12, by rw [c15]; exact qz_v0 24,
    br_f (by rw [c15, c60]; exact h0) ⟨qz_v0 12, nm_e ⟨qz_v0 12, nm_e ⟨qz_v0 12, qz_v0 12, ?_⟩⟩⟩⟩⟩)⟩
  rw [c14, c13]
  refine qz_en2 (kd := 2) (tc' := 1) (wt := wt) (B0 := B0) (am := am) (B1 := B1) (T0 := T0) (T1 := T1) (st := 3) (by decide) he (by decide) ?_ _ _ _ _ _ _ _ _ _ _ _ _ _ _ _ _ _ _ _ _ _ _ _ _ _ _ _ _ _ _ ⟨c10, c11, c20, c21, c70, c71, c80, c81, c60, c61, fun _ => ⟨c12, c13, c14, c15, c16, pk_us⟩, cB0, cB1, cW0, cW1⟩
  intro f3 f7 f13 f14 a1 a2 a3 a4 a5 a6 a7 a8 a9 a10 a11 a12 a13 a14 a15 a16 a17 a18 a19 a20 a21 a22 a23 a24 a25 a26 h
  exact hp _ _ _ _ _ _ _ _ _ _ _ _ _ _ _ _ _ _ _ _ _ _ _ _ _ _ _ _ _ _ h
theorem qz_mm3 {post : St2 → Prop} {am dp mk dt mv td T1 B0 B1 : Int32} {e : Nat} (he : e < 64) (hp : qz_K post 1 am (e + 1) dp mk dt 1 mv td 0 T1 4 (B0 + am) B1 0) :
    qz_K (fun u => wpX_makeMove post u 0) 1 am e dp mk dt 0 mv td 0 T1 2 B0 B1 0 := by
  intro f3 f7 f13 f14 a1 a2 a3 a4 a5 a6 a7 a8 a9 a10 a11 a12 a13 a14 a15 a16 a17 a18 a19 a20 a21 a22 a23 a24 a25 a26 hF
  obtain ⟨c10, c11, c20, c21, c70, c71, c80, c81, c60, c61, cD, cB0, cB1, cW0, cW1⟩ := hF
  obtain ⟨c12, c13, c14, c15, c16, c17⟩ := cD rfl
  refine nm_r (e' := 1) (by decide) ⟨qz_v0 12, nm_r c12 (nm_r (e' := 1) (by decide) ⟨qz_v0 12, br_f (by rw [c17]; decide) ⟨qz_v0 12, by rw [c15]; exact qz_v0 24,
    br_t (by rw [c15]; exact c60) ⟨qz_v0 12, nm_e ⟨qz_v0 12, nm_e ⟨qz_v0 12, ?_⟩⟩⟩⟩⟩)⟩
  rw [c14]
  refine qz_en0 (kd := 3) (tc' := 1) (wt := 0) (B0 := B0) (am := am) (B1 := B1) (T0 := 0) (T1 := T1) (st := 4) (by decide) he (by decide) ?_ _ _ _ _ _ _ _ _ _ _ _ _ _ _ _ _ _ _ _ _ _ _ _ _ _ _ _ _ _ _ ⟨c10, c11, c20, c21, c70, c71, c80, c81, c60, c61, fun _ => ⟨c12, c13, c14, c15, c16, pk_us⟩, cB0, cB1, cW0, cW1⟩
  intro f3 f7 f13 f14 a1 a2 a3 a4 a5 a6 a7 a8 a9 a10 a11 a12 a13 a14 a15 a16 a17 a18 a19 a20 a21 a22 a23 a24 a25 a26 h
  exact hp _ _ _ _ _ _ _ _ _ _ _ _ _ _ _ _ _ _ _ _ _ _ _ _ _ _ _ _ _ _ h
/-! settle -/
def qz_S4 (post : Int32 → St2 → Prop) (n : Nat) (x1 x2 : Int32) (u : St2) : Prop := match u with
  | (f1, f2, f3, f4, f5, f6, f7, f8, f9, f10, f11, f12, f13, f14, a1, a2, a3, a4, a5, a6, a7, a8, a9, a10, a11, a12, a13, a14, a15, a16, a17, a18, a19, a20, a21, a22, a23, a24, a25, a26) => wX_settle_4 post n x1 x2 f1 f2 f3 f4 f5 f6 f7 f8 f9 f10 f11 f12 f13 f14 a1 a2 a3 a4 a5 a6 a7 a8 a9 a10 a11 a12 a13 a14 a15 a16 a17 a18 a19 a20 a21 a22 a23 a24 a25 a26
theorem qz_it0 {post : Int32 → St2 → Prop} {D am dp mk dt tc mv td T0 T1 st B0 B1 wt : Int32} {e : Nat} {n : Nat} {x1 x2 : Int32} (hx : ¬ 25 ≤ x2)
    (hr : ∀ Q : St2 → Prop, qz_K Q D am e dp mk dt 0 0 td T0 T1 st B0 B1 wt → qz_K (wpX_refresh Q) D am e dp mk dt tc mv td T0 T1 st B0 B1 wt)
    (hp : qz_K (post x1) D am e dp mk dt 0 0 td T0 T1 st B0 B1 wt) : qz_K (qz_S4 post (n + 1) x1 x2) D am e dp mk dt tc mv td T0 T1 st B0 B1 wt := by
  intro f3 f7 f13 f14 a1 a2 a3 a4 a5 a6 a7 a8 a9 a10 a11 a12 a13 a14 a15 a16 a17 a18 a19 a20 a21 a22 a23 a24 a25 a26 hF
  refine br_f hx (hr _ ?_ _ _ _ _ _ _ _ _ _ _ _ _ _ _ _ _ _ _ _ _ _ _ _ _ _ _ _ _ _ _ hF)
  intro f3 f7 f13 f14 a1 a2 a3 a4 a5 a6 a7 a8 a9 a10 a11 a12 a13 a14 a15 a16 a17 a18 a19 a20 a21 a22 a23 a24 a25 a26 h
  exact br_t rfl (hp _ _ _ _ _ _ _ _ _ _ _ _ _ _ _ _ _ _ _ _ _ _ _ _ _ _ _ _ _ _ h)
theorem qz_it1 {post : Int32 → St2 → Prop} {am dp mk dt td T0 T1 st B0 B1 wt : Int32} {e : Nat} {n : Nat} {x1 x2 y1 y2 st' B0' B1' wt' : Int32} (hx : ¬ 25 ≤ x2) (hy1 : x1 + 1 = y1) (hy2 : x2 + 1 = y2)
    (hr : ∀ Q : St2 → Prop, qz_K Q 1 am e dp mk dt 0 1 td T0 T1 st B0 B1 wt → qz_K (wpX_refresh Q) 1 am e dp mk dt 1 0 td T0 T1 st B0 B1 wt)
    (hm : ∀ Q : St2 → Prop, qz_K Q 1 am (e + 1) dp mk dt 1 1 td T0 T1 st' B0' B1' wt' → qz_K (fun u => wpX_makeMove Q u 0) 1 am e dp mk dt 0 1 td T0 T1 st B0 B1 wt)
    (hp : qz_K (qz_S4 post n y1 y2) 1 am (e + 1) dp mk dt 1 1 td T0 T1 st' B0' B1' wt') : qz_K (qz_S4 post (n + 1) x1 x2) 1 am e dp mk dt 1 0 td T0 T1 st B0 B1 wt := by
  intro f3 f7 f13 f14 a1 a2 a3 a4 a5 a6 a7 a8 a9 a10 a11 a12 a13 a14 a15 a16 a17 a18 a19 a20 a21 a22 a23 a24 a25 a26 hF
  refine br_f hx (hr _ ?_ _ _ _ _ _ _ _ _ _ _ _ _ _ _ _ _ _ _ _ _ _ _ _ _ _ _ _ _ _ _ hF)
  intro f3 f7 f13 f14 a1 a2 a3 a4 a5 a6 a7 a8 a9 a10 a11 a12 a13 a14 a15 a16 a17 a18 a19 a20 a21 a22 a23 a24 a25 a26 h
  refine br_f (by decide) (Exists.intro (0 + 1) (br_f (by decide) (br_f (by decide) (hm _ ?_ _ _ _ _ _ _ _ _ _ _ _ _ _ _ _ _ _ _ _ _ _ _ _ _ _ _ _ _ _ _ h))))
  intro f3 f7 f13 f14 a1 a2 a3 a4 a5 a6 a7 a8 a9 a10 a11 a12 a13 a14 a15 a16 a17 a18 a19 a20 a21 a22 a23 a24 a25 a26 h'
  exact nm_r hy1 (nm_r hy2 (hp _ _ _ _ _ _ _ _ _ _ _ _ _ _ _ _ _ _ _ _ _ _ _ _ _ _ _ _ _ _ h'))
/-- no move: no deal; or nothing touched; or the deal can't move -/
theorem qz_se0 {post : Int32 → St2 → Prop} {D am dp mk dt tc td T0 T1 st B0 B1 wt : Int32} {e : Nat} (hs : D = 0 ∨ (D = 1 ∧ tc = 0) ∨ (D = 1 ∧ tc = 1 ∧ qz_no am st B0 T0 T1)) (hp : qz_K (post 0) D am e dp mk dt 0 0 td T0 T1 st B0 B1 wt) : qz_K (wpX_settle post) D am e dp mk dt tc 0 td T0 T1 st B0 B1 wt := by
  intro f3 f7 f13 f14 a1 a2 a3 a4 a5 a6 a7 a8 a9 a10 a11 a12 a13 a14 a15 a16 a17 a18 a19 a20 a21 a22 a23 a24 a25 a26 hF
  rcases hs with rfl | ⟨rfl, rfl⟩ | ⟨rfl, rfl, nm⟩
  · exact Exists.intro (0 + 1) (qz_it0 (by decide) (fun Q hQ => qz_rf0 hQ) hp _ _ _ _ _ _ _ _ _ _ _ _ _ _ _ _ _ _ _ _ _ _ _ _ _ _ _ _ _ _ hF)
  · exact Exists.intro (0 + 1) (qz_it0 (by decide) (fun Q hQ => qz_rfT hQ) hp _ _ _ _ _ _ _ _ _ _ _ _ _ _ _ _ _ _ _ _ _ _ _ _ _ _ _ _ _ _ hF)
  · exact Exists.intro (0 + 1) (qz_it0 (by decide) (fun Q hQ => qz_rfC nm (by decide) hQ) hp _ _ _ _ _ _ _ _ _ _ _ _ _ _ _ _ _ _ _ _ _ _ _ _ _ _ _ _ _ _ hF)
/-- one move: the deal is paid for and held -/
theorem qz_se1 {post : Int32 → St2 → Prop} {am dp mk dt td B0 B1 : Int32} {e : Nat} (he : e < 64) (hl : ¬ B0 < am) (hp : qz_K (post 1) 1 am (e + 1) dp mk dt 0 0 td 0 0 2 (B0 + -am) B1 0) :
    qz_K (wpX_settle post) 1 am e dp mk dt 1 0 td 0 0 1 B0 B1 1 := by
  intro f3 f7 f13 f14 a1 a2 a3 a4 a5 a6 a7 a8 a9 a10 a11 a12 a13 a14 a15 a16 a17 a18 a19 a20 a21 a22 a23 a24 a25 a26 hF
  exact Exists.intro (0 + 1 + 1) (qz_it1 (y1 := 1) (y2 := 1) (by decide) (by decide) (by decide) (fun Q hQ => qz_rfM (Or.inl ⟨rfl, hl⟩) hQ) (fun Q hQ => qz_mm1 he hQ)
    (qz_it0 (by decide) (fun Q hQ => qz_rfC (Or.inr (Or.inl ⟨rfl, rfl, rfl⟩)) (by decide) hQ) hp) _ _ _ _ _ _ _ _ _ _ _ _ _ _ _ _ _ _ _ _ _ _ _ _ _ _ _ _ _ _ hF)
/-- one move: the deal is released -/
theorem qz_se2 {post : Int32 → St2 → Prop} {am dp mk dt td T0 T1 B0 B1 wt : Int32} {e : Nat} (he : e < 64) (h0 : ¬ T0 = 0) (hp : qz_K (post 1) 1 am (e + 1) dp mk dt 0 0 td T0 T1 3 B0 (B1 + am) wt) :
    qz_K (wpX_settle post) 1 am e dp mk dt 1 0 td T0 T1 2 B0 B1 wt := by
  intro f3 f7 f13 f14 a1 a2 a3 a4 a5 a6 a7 a8 a9 a10 a11 a12 a13 a14 a15 a16 a17 a18 a19 a20 a21 a22 a23 a24 a25 a26 hF
  exact Exists.intro (0 + 1 + 1) (qz_it1 (y1 := 1) (y2 := 1) (by decide) (by decide) (by decide) (fun Q hQ => qz_rfM (Or.inr (Or.inl ⟨rfl, h0⟩)) hQ) (fun Q hQ => qz_mm2 he h0 hQ)
    (qz_it0 (by decide) (fun Q hQ => qz_rfC (Or.inr (Or.inr (Or.inl rfl))) (by decide) hQ) hp) _ _ _ _ _ _ _ _ _ _ _ _ _ _ _ _ _ _ _ _ _ _ _ _ _ _ _ _ _ _ hF)
/-- one move: the deal is paid back -/
theorem qz_se3 {post : Int32 → St2 → Prop} {am dp mk dt td T1 B0 B1 : Int32} {e : Nat} (he : e < 64) (h1 : ¬ T1 = 0) (hp : qz_K (post 1) 1 am (e + 1) dp mk dt 0 0 td 0 T1 4 (B0 + am) B1 0) :
    qz_K (wpX_settle post) 1 am e dp mk dt 1 0 td 0 T1 2 B0 B1 0 := by
  intro f3 f7 f13 f14 a1 a2 a3 a4 a5 a6 a7 a8 a9 a10 a11 a12 a13 a14 a15 a16 a17 a18 a19 a20 a21 a22 a23 a24 a25 a26 hF
  exact Exists.intro (0 + 1 + 1) (qz_it1 (y1 := 1) (y2 := 1) (by decide) (by decide) (by decide) (fun Q hQ => qz_rfM (Or.inr (Or.inr ⟨rfl, rfl, h1⟩)) hQ) (fun Q hQ => qz_mm3 he hQ)
    (qz_it0 (by decide) (fun Q hQ => qz_rfC (Or.inr (Or.inr (Or.inr rfl))) (by decide) hQ) hp) _ _ _ _ _ _ _ _ _ _ _ _ _ _ _ _ _ _ _ _ _ _ _ _ _ _ _ _ _ _ hF)
end
section
/-! holds, handOn, propagate -/
theorem qz_zo (x : Int32) : 0 ||| x = x := by
  apply Int32.toBitVec_inj.mp
  simp
theorem qz_hS1 {post : Int32 → Prop} {f1 f2 f3 f4 f5 f6 f7 f9 f10 f11 f12 f13 f14 : Int32} {a1 a2 a3 a4 a5 a6 a7 a8 a9 a10 a11 a12 a13 a14 a15 a16 a17 a18 a19 a20 a21 a22 a23 a24 a25 a26 : Nat → Int32} (c10 : a1 (0 : Int32).toNatClampNeg = 0) (c20 : a2 (0 : Int32).toNatClampNeg = 0) (hp : post 1) : wpX_holds post (f1, f2, f3, f4, f5, f6, f7, 1, f9, f10, f11, f12, f13, f14, a1, a2, a3, a4, a5, a6, a7, a8, a9, a10, a11, a12, a13, a14, a15, a16, a17, a18, a19, a20, a21, a22, a23, a24, a25, a26) 0 :=
  And.intro (qz_v0 24) (br_t c10 ⟨qz_v0 24, br_t (by rw [c20]; decide) hp⟩)
theorem qz_hS0 {post : Int32 → Prop} {f1 f2 f3 f4 f5 f6 f7 f9 f10 f11 f12 f13 f14 : Int32} {a1 a2 a3 a4 a5 a6 a7 a8 a9 a10 a11 a12 a13 a14 a15 a16 a17 a18 a19 a20 a21 a22 a23 a24 a25 a26 : Nat → Int32} (c10 : a1 (0 : Int32).toNatClampNeg = 0) (c20 : a2 (0 : Int32).toNatClampNeg = 0) (hp : post 0) : wpX_holds post (f1, f2, f3, f4, f5, f6, f7, 0, f9, f10, f11, f12, f13, f14, a1, a2, a3, a4, a5, a6, a7, a8, a9, a10, a11, a12, a13, a14, a15, a16, a17, a18, a19, a20, a21, a22, a23, a24, a25, a26) 0 :=
  And.intro (qz_v0 24) (br_t c10 ⟨qz_v0 24, br_f (by rw [c20]; decide) hp⟩)
theorem qz_hA1 {post : Int32 → Prop} {f1 f2 f3 f4 f5 f6 f7 f8 f9 f10 f11 f12 f13 f14 : Int32} {a1 a2 a3 a4 a5 a6 a7 a8 a9 a10 a11 a12 a13 a14 a15 a16 a17 a18 a19 a20 a21 a22 a23 a24 a25 a26 : Nat → Int32} (c11 : a1 (1 : Int32).toNatClampNeg = 1) (c21 : a2 (1 : Int32).toNatClampNeg = 5) (ht : ¬ f12 < 5) (hp : post 1) : wpX_holds post (f1, f2, f3, f4, f5, f6, f7, f8, f9, f10, f11, f12, f13, f14, a1, a2, a3, a4, a5, a6, a7, a8, a9, a10, a11, a12, a13, a14, a15, a16, a17, a18, a19, a20, a21, a22, a23, a24, a25, a26) 1 :=
  And.intro (qz_v1 24) (br_f (by rw [c11]; decide) ⟨qz_v1 24, br_t c11 ⟨qz_v1 24, br_f (by rw [c21]; exact ht) hp⟩⟩)
theorem qz_hA0 {post : Int32 → Prop} {f1 f2 f3 f4 f5 f6 f7 f8 f9 f10 f11 f12 f13 f14 : Int32} {a1 a2 a3 a4 a5 a6 a7 a8 a9 a10 a11 a12 a13 a14 a15 a16 a17 a18 a19 a20 a21 a22 a23 a24 a25 a26 : Nat → Int32} (c11 : a1 (1 : Int32).toNatClampNeg = 1) (c21 : a2 (1 : Int32).toNatClampNeg = 5) (ht : f12 < 5) (hp : post 0) : wpX_holds post (f1, f2, f3, f4, f5, f6, f7, f8, f9, f10, f11, f12, f13, f14, a1, a2, a3, a4, a5, a6, a7, a8, a9, a10, a11, a12, a13, a14, a15, a16, a17, a18, a19, a20, a21, a22, a23, a24, a25, a26) 1 :=
  And.intro (qz_v1 24) (br_f (by rw [c11]; decide) ⟨qz_v1 24, br_t c11 ⟨qz_v1 24, br_t (by rw [c21]; exact ht) hp⟩⟩)
theorem qz_ho0 {post : St2 → Prop} {f1 f2 f3 f4 f5 f6 f7 f8 f9 f10 f11 f12 f13 f14 : Int32} {a1 a2 a3 a4 a5 a6 a7 a8 a9 a10 a11 a12 a13 a14 a15 a16 a17 a18 a19 a20 a21 a22 a23 a24 a25 a26 : Nat → Int32} {r : Int32} (c70 : a7 (0 : Int32).toNatClampNeg = -1) (hp : post (f1, f2, f3, f4, f5, f6, f7, f8, f9, f10, f11, f12, f13, f14, a1, a2, a3, a4, a5, a6, a7, a8, a9, a10, a11, a12, a13, a14, a15, a16, a17, a18, a19, a20, a21, a22, a23, a24, a25, a26)) : wpX_handOn post (f1, f2, f3, f4, f5, f6, f7, f8, f9, f10, f11, f12, f13, f14, a1, a2, a3, a4, a5, a6, a7, a8, a9, a10, a11, a12, a13, a14, a15, a16, a17, a18, a19, a20, a21, a22, a23, a24, a25, a26) 0 r :=
  And.intro (qz_v0 24) (nm_r c70 (Exists.intro (0 + 1) (br_f (by decide) (br_t (by decide) hp))))
theorem qz_ho1 {post : St2 → Prop} {f1 f2 f3 f4 f5 f6 f7 f8 f9 f10 f11 f12 f13 f14 : Int32} {a1 a2 a3 a4 a5 a6 a7 a8 a9 a10 a11 a12 a13 a14 a15 a16 a17 a18 a19 a20 a21 a22 a23 a24 a25 a26 : Nat → Int32} {r : Int32} (c71 : a7 (1 : Int32).toNatClampNeg = -1) (hp : post (f1, f2, f3, f4, f5, f6, f7, f8, f9, f10, f11, f12, f13, f14, a1, a2, a3, a4, a5, a6, a7, a8, a9, a10, a11, a12, a13, a14, a15, a16, a17, a18, a19, a20, a21, a22, a23, a24, a25, a26)) : wpX_handOn post (f1, f2, f3, f4, f5, f6, f7, f8, f9, f10, f11, f12, f13, f14, a1, a2, a3, a4, a5, a6, a7, a8, a9, a10, a11, a12, a13, a14, a15, a16, a17, a18, a19, a20, a21, a22, a23, a24, a25, a26) 1 r :=
  And.intro (qz_v1 24) (nm_r c71 (Exists.intro (0 + 1) (br_f (by decide) (br_t (by decide) hp))))
/-- the signer's node turns -/
theorem qz_pm1 {post : St2 → Prop} {D am dp mv td T1 st B0 B1 wt : Int32} {e : Nat} (hp : qz_K post D am e dp 1 0 D mv td 1 T1 st B0 B1 wt) : qz_K (wpX_propagate post) D am e dp 1 1 0 mv td 0 T1 st B0 B1 wt := by
  intro f3 f7 f13 f14 a1 a2 a3 a4 a5 a6 a7 a8 a9 a10 a11 a12 a13 a14 a15 a16 a17 a18 a19 a20 a21 a22 a23 a24 a25 a26 hF
  obtain ⟨c10, c11, c20, c21, c70, c71, c80, c81, c60, c61, cD, cB0, cB1, cW0, cW1⟩ := hF
  refine Exists.intro (0 + 1 + 1 + 1) (br_f (by decide) (br_t (by decide) (qz_hS1 c10 c20 ⟨qz_v0 24, br_f (by rw [c60]; decide) ⟨qz_v0 24, nm_r (e' := upd a6 (0 : Int32).toNatClampNeg 1) (congrArg (upd a6 _) qz_nb1) ⟨qz_v0 24,
    nm_r (e' := D) (by rw [c80]; exact qz_zo D) (qz_ho0 c70 (nm_r (e' := 1) (by decide) (br_f (by decide) (br_f (by decide) (nm_r (e' := 2) (by decide) (br_t (by decide) ?_))))))⟩⟩⟩)))
  exact hp _ _ _ _ _ _ _ _ _ _ _ _ _ _ _ _ _ _ _ _ _ _ _ _ _ _ _ _ _ _ ⟨c10, c11, c20, c21, c70, c71, c80, c81, pk_us, (pk_un qz_OZ).trans c61, cD, cB0, cB1, cW0, cW1⟩
/-- the signer's node stays -/
theorem qz_pm0 {post : St2 → Prop} {D am dp tc mv td T1 st B0 B1 wt : Int32} {e : Nat} (hp : qz_K post D am e dp 0 0 tc mv td 0 T1 st B0 B1 wt) : qz_K (wpX_propagate post) D am e dp 0 1 tc mv td 0 T1 st B0 B1 wt := by
  intro f3 f7 f13 f14 a1 a2 a3 a4 a5 a6 a7 a8 a9 a10 a11 a12 a13 a14 a15 a16 a17 a18 a19 a20 a21 a22 a23 a24 a25 a26 hF
  have hF' := hF
  obtain ⟨c10, c11, c20, c21, c70, c71, c80, c81, c60, c61, cD, cB0, cB1, cW0, cW1⟩ := hF
  exact Exists.intro (0 + 1 + 1 + 1) (br_f (by decide) (br_t (by decide) (qz_hS0 c10 c20 ⟨qz_v0 24, br_t c60.symm (nm_r (e' := 1) (by decide) (br_f (by decide) (br_f (by decide) (nm_r (e' := 2) (by decide) (br_t (by decide) (hp _ _ _ _ _ _ _ _ _ _ _ _ _ _ _ _ _ _ _ _ _ _ _ _ _ _ _ _ _ _ hF'))))))⟩)))
/-- the day's node turns -/
theorem qz_pa1 {post : St2 → Prop} {D am dp mk mv T0 st B0 B1 wt : Int32} {e : Nat} (hp : qz_K post D am e dp mk 0 D mv 5 T0 1 st B0 B1 wt) : qz_K (wpX_propagate post) D am e dp mk 2 0 mv 5 T0 0 st B0 B1 wt := by
  intro f3 f7 f13 f14 a1 a2 a3 a4 a5 a6 a7 a8 a9 a10 a11 a12 a13 a14 a15 a16 a17 a18 a19 a20 a21 a22 a23 a24 a25 a26 hF
  obtain ⟨c10, c11, c20, c21, c70, c71, c80, c81, c60, c61, cD, cB0, cB1, cW0, cW1⟩ := hF
  refine Exists.intro (0 + 1 + 1 + 1) (br_f (by decide) (br_f (by decide) (nm_r (e' := 1) (by decide) (br_f (by decide) (br_t (by decide) (qz_hA1 c11 c21 (by decide) ⟨qz_v1 24, br_f (by rw [c61]; decide) ⟨qz_v1 24,
    nm_r (e' := upd a6 (1 : Int32).toNatClampNeg 1) (congrArg (upd a6 _) qz_nb1) ⟨qz_v1 24, nm_r (e' := D) (by rw [c81]; exact qz_zo D) (qz_ho1 c71 (nm_r (e' := 2) (by decide) (br_t (by decide) ?_)))⟩⟩⟩))))))
  exact hp _ _ _ _ _ _ _ _ _ _ _ _ _ _ _ _ _ _ _ _ _ _ _ _ _ _ _ _ _ _ ⟨c10, c11, c20, c21, c70, c71, c80, c81, (pk_un qz_ZO).trans c60, pk_us, cD, cB0, cB1, cW0, cW1⟩
end
section
/-! init, offer, signer, after, terms -/
theorem qz_i248 {post : St2 → Prop} {mc ms kc ks : Nat} {f1 f2 f3 f4 f5 f6 f7 f8 f9 f10 f11 f12 f13 f14 : Int32} {a1 a2 a3 a4 a5 a6 a7 a8 a9 a10 a11 a12 a13 a14 a15 a16 a17 a18 a19 a20 a21 a22 a23 a24 a25 a26 : Nat → Int32} (hp : ∀ a15 a16, post (f1, f2, f3, f4, f5, f6, f7, f8, f9, f10, f11, f12, f13, f14, a1, a2, a3, a4, a5, a6, a7, a8, a9, a10, a11, a12, a13, a14, a15, a16, a17, a18, a19, a20, a21, a22, a23, a24, a25, a26)) : ∃ n, wX_init_248 post mc ms kc ks f1 f2 f3 f4 f5 f6 f7 f8 f9 f10 f11 f12 f13 f14 n 0 a1 a2 a3 a4 a5 a6 a7 a8 a9 a10 a11 a12 a13 a14 a15 a16 a17 a18 a19 a20 a21 a22 a23 a24 a25 a26 :=
  pk_loop (fun n i (s : (Nat → Int32) × (Nat → Int32)) => wX_init_248 post mc ms kc ks f1 f2 f3 f4 f5 f6 f7 f8 f9 f10 f11 f12 f13 f14 n (nI i) a1 a2 a3 a4 a5 a6 a7 a8 a9 a10 a11 a12 a13 a14 s.1 s.2 a17 a18 a19 a20 a21 a22 a23 a24 a25 a26) (fun _ _ => True) 12 0 (a15, a16) (by omega) trivial
    (fun n s _ => pk_le 12 12 (fun _ => hp _ _) (fun z => absurd z (by omega)))
    (fun n i s hi _ hw => pk_le 12 i (fun z => absurd z (by omega)) (fun _ => ⟨vp_in_nI hi (by omega), nm_e ⟨vp_in_nI hi (by omega), nm_e (nm_r (nI_1 i) (hw (_, _) trivial))⟩⟩))
theorem qz_init {post : St2 → Prop} (hp : ∀ a15 a16, post (2, 0, 0, 0, 0, 0, 0, 0, 0, 0, 0, 0, 0, 0, (fun _ => 0), (fun _ => 0), (fun _ => 0), (fun _ => 0), (fun _ => 0), (fun _ => 0), (fun _ => 0), (fun _ => 0), (fun _ => 0), (fun _ => 0), (fun _ => 0), (fun _ => 0), (fun _ => 0), (fun _ => 0), a15, a16, (fun _ => 0), (fun _ => 0), (fun _ => 0), (fun _ => 0), (fun _ => 0), (fun _ => 0), (fun _ => 0), (fun _ => 0), (fun _ => 0), (fun _ => 0))) :
    wpX_init post 26 2564 (0, 0, 0, 0, 0, 0, 0, 0, 0, 0, 0, 0, 0, 0) 2 :=
  And.intro (by decide) ⟨by decide, by decide, by decide, by decide, by decide, by decide, by decide, by decide, by decide, by decide, by decide, by decide, by decide, by decide, by decide, by decide, by decide, by decide, by decide, by decide, by decide, by decide, by decide, by decide, by decide, by decide, by decide, by decide, by decide, by decide, by decide, by decide, by decide, by decide, by decide, by decide, by decide, by decide, by decide, by decide, by decide, by decide, by decide, by decide, by decide, by decide, by decide, by decide, by decide, by decide, by decide, br_t (by decide) (br_t (by decide) (qz_i248 hp))⟩
theorem qz_acc0 {post : Int32 → Prop} {f2 f3 f4 f5 f6 f7 f8 f9 f10 f11 f12 f13 f14 : Int32} {a1 a2 a3 a4 a5 a6 a7 a8 a9 a10 a11 a12 a13 a14 a15 a16 a17 a18 a19 a20 a21 a22 a23 a24 a25 a26 : Nat → Int32} (hp : post 1) : wpX_isAccount post (2, f2, f3, f4, f5, f6, f7, f8, f9, f10, f11, f12, f13, f14, a1, a2, a3, a4, a5, a6, a7, a8, a9, a10, a11, a12, a13, a14, a15, a16, a17, a18, a19, a20, a21, a22, a23, a24, a25, a26) 0 := br_f (by decide) (br_f (by decide) hp)
theorem qz_acc1 {post : Int32 → Prop} {f2 f3 f4 f5 f6 f7 f8 f9 f10 f11 f12 f13 f14 : Int32} {a1 a2 a3 a4 a5 a6 a7 a8 a9 a10 a11 a12 a13 a14 a15 a16 a17 a18 a19 a20 a21 a22 a23 a24 a25 a26 : Nat → Int32} (hp : post 1) : wpX_isAccount post (2, f2, f3, f4, f5, f6, f7, f8, f9, f10, f11, f12, f13, f14, a1, a2, a3, a4, a5, a6, a7, a8, a9, a10, a11, a12, a13, a14, a15, a16, a17, a18, a19, a20, a21, a22, a23, a24, a25, a26) 1 := br_f (by decide) (br_f (by decide) hp)
theorem qz_of0 {post : Int32 → St2 → Prop} {f2 f3 f4 f5 f6 f7 f8 f9 f10 f11 f12 f13 f14 x : Int32} {a1 a2 a3 a4 a5 a6 a7 a8 a9 a10 a11 a12 a13 a14 a15 a16 a17 a18 a19 a20 a21 a22 a23 a24 a25 a26 : Nat → Int32} (h : x < 1 ∨ ¬ x ≤ 1000) (hp : post (-3) (2, f2, f3, f4, f5, f6, f7, f8, f9, f10, f11, f12, f13, f14, a1, a2, a3, a4, a5, a6, a7, a8, a9, a10, a11, a12, a13, a14, a15, a16, a17, a18, a19, a20, a21, a22, a23, a24, a25, a26)) : wpX_offer post (2, f2, f3, f4, f5, f6, f7, f8, f9, f10, f11, f12, f13, f14, a1, a2, a3, a4, a5, a6, a7, a8, a9, a10, a11, a12, a13, a14, a15, a16, a17, a18, a19, a20, a21, a22, a23, a24, a25, a26) 0 1 x := by
  unfold wpX_offer
  by_cases a : x < 1
  · exact qz_acc0 (br_f (by decide) (qz_acc1 (br_f (by decide) (br_f (by decide) (br_t a hp)))))
  · rcases h with b | b
    · exact absurd b a
    · exact qz_acc0 (br_f (by decide) (qz_acc1 (br_f (by decide) (br_f (by decide) (br_f a (br_f b hp))))))
theorem qz_11 : (1 : Int32) - 1 = 0 := by decide
theorem qz_of1 {post : Int32 → St2 → Prop} {f2 f3 f5 f6 f7 f8 f9 f10 f11 f12 f13 f14 x : Int32} {a1 a2 a3 a4 a5 a6 a7 a8 a9 a10 a11 a12 a13 a14 a15 a16 a17 a18 a19 a20 a21 a22 a23 a24 a25 a26 : Nat → Int32} (h1 : ¬ x < 1) (h2 : x ≤ 1000)
    (hp : post 0 (2, f2, f3, 1, f5, f6, f7, f8, f9, f10, f11, f12, f13, f14, a1, a2, a3, a4, a5, a6, a7, a8, a9, a10, a11, upd a12 (0 : Int32).toNatClampNeg 0, upd a13 (0 : Int32).toNatClampNeg 1, upd a14 (0 : Int32).toNatClampNeg x, a15, a16, upd a17 (0 : Int32).toNatClampNeg 0, a18, a19, a20, a21, a22, a23, a24, a25, a26)) : wpX_offer post (2, f2, f3, 0, f5, f6, f7, f8, f9, f10, f11, f12, f13, f14, a1, a2, a3, a4, a5, a6, a7, a8, a9, a10, a11, a12, a13, a14, a15, a16, a17, a18, a19, a20, a21, a22, a23, a24, a25, a26) 0 1 x := by
  unfold wpX_offer
  refine qz_acc0 (br_f (by decide) (qz_acc1 (br_f (by decide) (br_f (by decide) (br_f h1 (br_t h2 (br_f (by decide) ⟨qz_v0 12, nm_e ⟨qz_v0 12, nm_e ⟨qz_v0 12, nm_e ⟨qz_v0 12, nm_e (nm_r (e' := 1) (by decide) ?_)⟩⟩⟩⟩)))))))
  rw [qz_11]
  exact hp
theorem qz_sg {post : Int32 → St2 → Prop} {f1 f3 f4 f5 f6 f7 f9 f10 f11 f12 f13 f14 : Int32} {a1 a2 a3 a4 a5 a6 a7 a8 a9 a10 a11 a12 a13 a14 a15 a16 a17 a18 a19 a20 a21 a22 a23 a24 a25 a26 : Nat → Int32}
    (hp : post 0 (f1, 1, f3, f4, f5, f6, f7, 0, f9, f10, f11, f12, f13, f14, upd a1 (0 : Int32).toNatClampNeg 0, upd a2 (0 : Int32).toNatClampNeg 0, upd a3 (0 : Int32).toNatClampNeg 0, a4, a5, upd a6 (0 : Int32).toNatClampNeg 0, upd a7 (0 : Int32).toNatClampNeg (-1), a8, a9, a10, a11, a12, a13, a14, a15, a16, a17, a18, a19, a20, a21, a22, a23, a24, a25, a26)) : wpX_signer post (f1, 0, f3, f4, f5, f6, f7, 0, f9, f10, f11, f12, f13, f14, a1, a2, a3, a4, a5, a6, a7, a8, a9, a10, a11, a12, a13, a14, a15, a16, a17, a18, a19, a20, a21, a22, a23, a24, a25, a26) 0 :=
  br_f (by decide) (br_t (by decide) (br_f (by decide) (And.intro (qz_v0 24) (nm_e ⟨qz_v0 24, nm_e ⟨qz_v0 24, nm_e ⟨qz_v0 24, nm_e (nm_r (e' := 1) (by decide)
    (qz_hS0 pk_us pk_us ⟨qz_v0 24, nm_r (e' := upd a6 (0 : Int32).toNatClampNeg 0) (congrArg (upd a6 _) qz_nb0) hp⟩))⟩⟩⟩))))
theorem qz_af {post : Int32 → St2 → Prop} {f1 f3 f4 f5 f6 f7 f8 f9 f10 f11 f13 f14 : Int32} {a1 a2 a3 a4 a5 a6 a7 a8 a9 a10 a11 a12 a13 a14 a15 a16 a17 a18 a19 a20 a21 a22 a23 a24 a25 a26 : Nat → Int32}
    (hp : post 1 (f1, 2, f3, f4, f5, f6, f7, f8, f9, f10, f11, 0, f13, f14, upd a1 (1 : Int32).toNatClampNeg 1, upd a2 (1 : Int32).toNatClampNeg 5, upd a3 (1 : Int32).toNatClampNeg 0, a4, a5, upd a6 (1 : Int32).toNatClampNeg 0, upd a7 (1 : Int32).toNatClampNeg (-1), a8, a9, a10, a11, a12, a13, a14, a15, a16, a17, a18, a19, a20, a21, a22, a23, a24, a25, a26)) : wpX_after post (f1, 1, f3, f4, f5, f6, f7, f8, f9, f10, f11, 0, f13, f14, a1, a2, a3, a4, a5, a6, a7, a8, a9, a10, a11, a12, a13, a14, a15, a16, a17, a18, a19, a20, a21, a22, a23, a24, a25, a26) 5 :=
  br_f (by decide) (br_t (by decide) (br_f (by decide) (And.intro (qz_v1 24) (nm_e ⟨qz_v1 24, nm_e ⟨qz_v1 24, nm_e ⟨qz_v1 24, nm_e (nm_r (e' := 2) (by decide)
    (qz_hA0 pk_us pk_us (by decide) ⟨qz_v1 24, nm_r (e' := upd a6 (1 : Int32).toNatClampNeg 0) (congrArg (upd a6 _) qz_nb0) hp⟩))⟩⟩⟩))))
theorem qz_te0 {post : Int32 → St2 → Prop} {f1 f2 f3 f5 f6 f7 f8 f9 f10 f11 f12 f13 f14 : Int32} {a1 a2 a3 a4 a5 a6 a7 a8 a9 a10 a11 a12 a13 a14 a15 a16 a17 a18 a19 a20 a21 a22 a23 a24 a25 a26 : Nat → Int32} (hp : post (-1) (f1, f2, f3, 0, f5, f6, f7, f8, f9, f10, f11, f12, f13, f14, a1, a2, a3, a4, a5, a6, a7, a8, a9, a10, a11, a12, a13, a14, a15, a16, a17, a18, a19, a20, a21, a22, a23, a24, a25, a26)) : wpX_terms post (f1, f2, f3, 0, f5, f6, f7, f8, f9, f10, f11, f12, f13, f14, a1, a2, a3, a4, a5, a6, a7, a8, a9, a10, a11, a12, a13, a14, a15, a16, a17, a18, a19, a20, a21, a22, a23, a24, a25, a26) 0 0 1 :=
  br_f (by decide) (br_t (by decide) (br_t rfl hp))
theorem qz_te1 {post : Int32 → St2 → Prop} {am : Int32} {f3 f7 f13 f14 : Int32} {a1 a2 a3 a4 a5 a6 a7 a8 a9 a10 a11 a12 a13 a14 a15 a16 a17 a18 a19 a20 a21 a22 a23 a24 a25 a26 : Nat → Int32} (c10 : a1 (0 : Int32).toNatClampNeg = 0) (c11 : a1 (1 : Int32).toNatClampNeg = 1) (c20 : a2 (0 : Int32).toNatClampNeg = 0) (c21 : a2 (1 : Int32).toNatClampNeg = 5) (c70 : a7 (0 : Int32).toNatClampNeg = -1) (c71 : a7 (1 : Int32).toNatClampNeg = -1)
    (c80 : a8 (0 : Int32).toNatClampNeg = 0) (c81 : a8 (1 : Int32).toNatClampNeg = 0) (c60 : a6 (0 : Int32).toNatClampNeg = 0) (c61 : a6 (1 : Int32).toNatClampNeg = 0) (c12 : a12 (0 : Int32).toNatClampNeg = 0) (c13 : a13 (0 : Int32).toNatClampNeg = 1) (c14 : a14 (0 : Int32).toNatClampNeg = am) (c17 : a17 (0 : Int32).toNatClampNeg = 0)
    (cB0 : a18 (0 : Int32).toNatClampNeg = 0) (cB1 : a18 (1 : Int32).toNatClampNeg = 0) (cW0 : a19 (0 : Int32).toNatClampNeg = 0) (cW1 : a19 (1 : Int32).toNatClampNeg = 0) (hl : 0 < am) (hp : qz_K (post 0) 1 am 0 0 0 0 0 0 0 0 0 1 0 0 1) :
    wpX_terms post (2, 2, f3, 1, (nI 0), 0, f7, 0, 0, 0, 0, 0, f13, f14, a1, a2, a3, a4, a5, a6, a7, a8, a9, a10, a11, a12, a13, a14, a15, a16, a17, a18, a19, a20, a21, a22, a23, a24, a25, a26) 0 0 1 := by
  have v12 : vp_in (a12 (0 : Int32).toNatClampNeg) 6 := by
    rw [c12]
    exact qz_v0 6
  refine br_f (by decide) (br_f (by decide) (br_f (by decide) ⟨qz_v0 12, br_t c17 (br_f (by decide) (br_f (by decide) (br_f (by decide) (br_f (by decide) (br_f (by decide) (br_f (by decide) (nm_r (e' := 1) (by decide)
    ⟨qz_v0 12, nm_e ⟨qz_v0 12, nm_e ⟨qz_v0 24, qz_v0 24, nm_r (e' := upd a8 (0 : Int32).toNatClampNeg 1) (congrArg (upd a8 _) (by rw [c80]; decide)) ⟨qz_v1 24, qz_v1 24,
      nm_r (e' := upd (upd a8 (0 : Int32).toNatClampNeg 1) (1 : Int32).toNatClampNeg 1) (congrArg (upd (upd a8 (0 : Int32).toNatClampNeg 1) _) (by rw [pk_un qz_OZ, c81]; decide)) ⟨qz_v0 12, nm_e ⟨qz_v0 12, qz_v0 12, v12, v12,
        nm_r (e' := upd a19 (0 : Int32).toNatClampNeg 1) (by rw [c12, cW0]; exact congrArg (upd a19 _) (by decide)) (nm_r (e' := 1) (by decide) ?_)⟩⟩⟩⟩⟩⟩)))))))⟩))
  refine qz_se0 (D := 1) (am := am) (e := 0) (T0 := 0) (T1 := 0) (st := 1) (B0 := 0) (B1 := 0) (wt := 1) (Or.inr (Or.inr ⟨rfl, rfl, Or.inl ⟨rfl, hl⟩⟩)) ?_ _ _ _ _ _ _ _ _ _ _ _ _ _ _ _ _ _ _ _ _ _ _ _ _ _ _ _ _ _ _
    ⟨c10, c11, c20, c21, c70, c71, (pk_un qz_ZO).trans pk_us, pk_us, c60, c61, fun _ => ⟨c12, c13, c14, pk_us, pk_us, pk_us⟩, cB0, cB1, pk_us, (pk_un qz_OZ).trans cW1⟩
  intro f3 f7 f13 f14 a1 a2 a3 a4 a5 a6 a7 a8 a9 a10 a11 a12 a13 a14 a15 a16 a17 a18 a19 a20 a21 a22 a23 a24 a25 a26 h
  exact hp _ _ _ _ _ _ _ _ _ _ _ _ _ _ _ _ _ _ _ _ _ _ _ _ _ _ _ _ _ _ h
end
section
/-! deposit, mark -/
theorem qz_db {post : Int32 → St2 → Prop} {f2 f3 f4 f5 f6 f7 f8 f9 f10 f11 f12 f13 f14 x : Int32} {a1 a2 a3 a4 a5 a6 a7 a8 a9 a10 a11 a12 a13 a14 a15 a16 a17 a18 a19 a20 a21 a22 a23 a24 a25 a26 : Nat → Int32} (h : x < 1 ∨ ¬ x ≤ 1000) (hp : post (-2) (2, f2, f3, f4, f5, f6, f7, f8, f9, f10, f11, f12, f13, f14, a1, a2, a3, a4, a5, a6, a7, a8, a9, a10, a11, a12, a13, a14, a15, a16, a17, a18, a19, a20, a21, a22, a23, a24, a25, a26)) : wpX_deposit post (2, f2, f3, f4, f5, f6, f7, f8, f9, f10, f11, f12, f13, f14, a1, a2, a3, a4, a5, a6, a7, a8, a9, a10, a11, a12, a13, a14, a15, a16, a17, a18, a19, a20, a21, a22, a23, a24, a25, a26) 0 x := by
  unfold wpX_deposit
  by_cases a : x < 1
  · exact qz_acc0 (br_f (by decide) (br_t a hp))
  · rcases h with b | b
    · exact absurd b a
    · exact qz_acc0 (br_f (by decide) (br_f a (br_f b hp)))
theorem qz_dg {post : Int32 → St2 → Prop} {D am mk dt td T0 T1 st B0 B1 wt : Int32} {e : Nat} {x r st' B0' wt' : Int32} {e' : Nat} (h1 : ¬ x < 1) (h2 : x ≤ 1000) (he : e < 64)
    (hs : ∀ Q : Int32 → St2 → Prop, qz_K (Q r) D am e' 1 mk dt 0 0 td T0 T1 st' B0' B1 wt' → qz_K (wpX_settle Q) D am (e + 1) 1 mk dt wt 0 td T0 T1 st (B0 + x) B1 wt)
    (hp : qz_K (post r) D am e' 1 mk dt 0 0 td T0 T1 st' B0' B1 wt') : qz_K (fun u => wpX_deposit post u 0 x) D am e 0 mk dt 0 0 td T0 T1 st B0 B1 wt := by
  intro f3 f7 f13 f14 a1 a2 a3 a4 a5 a6 a7 a8 a9 a10 a11 a12 a13 a14 a15 a16 a17 a18 a19 a20 a21 a22 a23 a24 a25 a26 hF
  unfold wpX_deposit
  refine qz_acc0 (br_f (by decide) (br_f h1 (br_t h2 (br_f (by decide) (nm_r (e' := 1) (by decide) (qz_en0 (kd := 0) (tc' := wt) (by decide) he (qz_zo wt) ?_ _ _ _ _ _ _ _ _ _ _ _ _ _ _ _ _ _ _ _ _ _ _ _ _ _ _ _ _ _ _ hF))))))
  intro f3 f7 f13 f14 a1 a2 a3 a4 a5 a6 a7 a8 a9 a10 a11 a12 a13 a14 a15 a16 a17 a18 a19 a20 a21 a22 a23 a24 a25 a26 h
  refine hs _ ?_ _ _ _ _ _ _ _ _ _ _ _ _ _ _ _ _ _ _ _ _ _ _ _ _ _ _ _ _ _ _ h
  intro f3 f7 f13 f14 a1 a2 a3 a4 a5 a6 a7 a8 a9 a10 a11 a12 a13 a14 a15 a16 a17 a18 a19 a20 a21 a22 a23 a24 a25 a26 h'
  exact hp _ _ _ _ _ _ _ _ _ _ _ _ _ _ _ _ _ _ _ _ _ _ _ _ _ _ _ _ _ _ h'
theorem qz_mg {post : Int32 → St2 → Prop} {D am dp td T0 T1 st B0 B1 wt : Int32} {e : Nat} {on r mk' tc' T0' st' B1' : Int32} {e' : Nat} (hon : (on = 0 ∧ mk' = 0) ∨ (¬ on = 0 ∧ mk' = 1))
    (hr : ∀ Q : St2 → Prop, qz_K Q D am e dp mk' 0 tc' 0 td T0' T1 st B0 B1 wt → qz_K (wpX_propagate Q) D am e dp mk' 1 0 0 td T0 T1 st B0 B1 wt)
    (hs : ∀ Q : Int32 → St2 → Prop, qz_K (Q r) D am e' dp mk' 0 0 0 td T0' T1 st' B0 B1' wt → qz_K (wpX_settle Q) D am e dp mk' 0 tc' 0 td T0' T1 st B0 B1 wt)
    (hp : qz_K (post r) D am e' dp mk' 0 0 0 td T0' T1 st' B0 B1' wt) : qz_K (fun u => wpX_mark post u 0 on) D am e dp 0 0 0 0 td T0 T1 st B0 B1 wt := by
  intro f3 f7 f13 f14 a1 a2 a3 a4 a5 a6 a7 a8 a9 a10 a11 a12 a13 a14 a15 a16 a17 a18 a19 a20 a21 a22 a23 a24 a25 a26 hF
  have hF' := hF
  obtain ⟨c10, c11, c20, c21, c70, c71, c80, c81, c60, c61, cD, cB0, cB1, cW0, cW1⟩ := hF
  have G : ∃ fu47 : Nat, wX_mark_47 post 0 2 2 f3 D (nI e) dp f7 mk' 0 0 td f13 f14 a1 a2 a3 a4 a5 a6 a7 a8 a9 a10 a11 a12 a13 a14 a15 a16 a17 a18 a19 a20 a21 a22 a23 a24 a25 a26 fu47 0 0 := by
    refine Exists.intro (0 + 1 + 1 + 1) (br_f (by decide) ⟨qz_v0 24, br_t c10 ⟨qz_v0 24, br_t c20 (nm_r (e' := 1) (by decide) (nm_r (e' := 1) (by decide) (br_f (by decide) ⟨qz_v1 24, br_f (by rw [c11]; decide) (nm_r (e' := 2) (by decide) (br_t (by decide) ?_))⟩)))⟩⟩)
    refine hr _ ?_ _ _ _ _ _ _ _ _ _ _ _ _ _ _ _ _ _ _ _ _ _ _ _ _ _ _ _ _ _ _ hF'
    intro f3 f7 f13 f14 a1 a2 a3 a4 a5 a6 a7 a8 a9 a10 a11 a12 a13 a14 a15 a16 a17 a18 a19 a20 a21 a22 a23 a24 a25 a26 h
    refine hs _ ?_ _ _ _ _ _ _ _ _ _ _ _ _ _ _ _ _ _ _ _ _ _ _ _ _ _ _ _ _ _ _ h
    intro f3 f7 f13 f14 a1 a2 a3 a4 a5 a6 a7 a8 a9 a10 a11 a12 a13 a14 a15 a16 a17 a18 a19 a20 a21 a22 a23 a24 a25 a26 h'
    exact hp _ _ _ _ _ _ _ _ _ _ _ _ _ _ _ _ _ _ _ _ _ _ _ _ _ _ _ _ _ _ h'
  rcases hon with ⟨h0, rfl⟩ | ⟨h0, rfl⟩
  · exact br_f (by decide) (br_t (by decide) (br_t h0 (nm_r (e' := 0) (by decide) G)))
  · exact br_f (by decide) (br_t (by decide) (br_f h0 (nm_r (e' := 1) (by decide) G)))
/-- no deal, or a deal that no node can move -/
def qz_rs (D am st B0 : Int32) : Prop := D = 0 ∨ (D = 1 ∧ ((st = 1 ∧ B0 < am) ∨ st = 3))
theorem qz_rs_se {D am tc st B0 T0 T1 : Int32} (h : qz_rs D am st B0) (ht : tc = D) : D = 0 ∨ (D = 1 ∧ tc = 0) ∨ (D = 1 ∧ tc = 1 ∧ qz_no am st B0 T0 T1) := by
  rcases h with h | ⟨h, a | a⟩
  · exact Or.inl h
  · exact Or.inr (Or.inr ⟨h, ht.trans h, Or.inl a⟩)
  · exact Or.inr (Or.inr ⟨h, ht.trans h, Or.inr (Or.inr (Or.inl a))⟩)
theorem qz_rs_01 {D am tc st B0 T0 T1 : Int32} (h : qz_rs D am st B0) (ht : tc = 0) : D = 0 ∨ (D = 1 ∧ tc = 0) ∨ (D = 1 ∧ tc = 1 ∧ qz_no am st B0 T0 T1) := by
  rcases h with h | ⟨h, _⟩
  · exact Or.inl h
  · exact Or.inr (Or.inl ⟨h, ht⟩)
/-- a mark that moves nothing -/
theorem qz_mr {post : Int32 → St2 → Prop} {D am dp td T1 st B0 B1 wt : Int32} {e : Nat} {on : Int32} (rs : qz_rs D am st B0)
    (hp : ∀ mk T0 : Int32, qz_K (post 0) D am e dp mk 0 0 0 td T0 T1 st B0 B1 wt) : qz_K (fun u => wpX_mark post u 0 on) D am e dp 0 0 0 0 td 0 T1 st B0 B1 wt := by
  by_cases h : on = 0
  · exact qz_mg (mk' := 0) (tc' := 0) (T0' := 0) (Or.inl ⟨h, rfl⟩) (fun Q hQ => qz_pm0 hQ) (fun Q hQ => qz_se0 (qz_rs_01 rs rfl) hQ) (hp 0 0)
  · exact qz_mg (mk' := 1) (tc' := D) (T0' := 1) (Or.inr ⟨h, rfl⟩) (fun Q hQ => qz_pm1 hQ) (fun Q hQ => qz_se0 (qz_rs_se rs rfl) hQ) (hp 1 1)
/-- the mark is taken away: a held deal stays -/
theorem qz_mh {post : Int32 → St2 → Prop} {am dp td T1 st B0 B1 wt : Int32} {e : Nat} {on : Int32} (h : on = 0)
    (hp : qz_K (post 0) 1 am e dp 0 0 0 0 td 0 T1 st B0 B1 wt) : qz_K (fun u => wpX_mark post u 0 on) 1 am e dp 0 0 0 0 td 0 T1 st B0 B1 wt :=
  qz_mg (mk' := 0) (tc' := 0) (T0' := 0) (Or.inl ⟨h, rfl⟩) (fun Q hQ => qz_pm0 hQ) (fun Q hQ => qz_se0 (Or.inr (Or.inl ⟨rfl, rfl⟩)) hQ) hp
/-- the mark is set: a held deal is released -/
theorem qz_m1 {post : Int32 → St2 → Prop} {am dp td T1 B0 B1 wt : Int32} {e : Nat} {on : Int32} (h : ¬ on = 0) (he : e < 64)
    (hp : qz_K (post 1) 1 am (e + 1) dp 1 0 0 0 td 1 T1 3 B0 (B1 + am) wt) : qz_K (fun u => wpX_mark post u 0 on) 1 am e dp 0 0 0 0 td 0 T1 2 B0 B1 wt :=
  qz_mg (mk' := 1) (tc' := 1) (T0' := 1) (Or.inr ⟨h, rfl⟩) (fun Q hQ => qz_pm1 hQ) (fun Q hQ => qz_se2 he (by decide) hQ) hp
end
section
/-! nextChange, goTo, advance -/
theorem qz_n5 {post : Int32 → Prop} {D am dp mk dt tc mv T0 T1 st B0 B1 wt : Int32} {e : Nat} {f3 f7 f13 f14 : Int32} {a1 a2 a3 a4 a5 a6 a7 a8 a9 a10 a11 a12 a13 a14 a15 a16 a17 a18 a19 a20 a21 a22 a23 a24 a25 a26 : Nat → Int32} (hF : qz_F D am T0 T1 st B0 B1 wt a1 a2 a6 a7 a8 a12 a13 a14 a15 a16 a17 a18 a19) (hp : post 5) : wpX_nextChange post (2, 2, f3, D, (nI e), dp, f7, mk, dt, tc, mv, 0, f13, f14, a1, a2, a3, a4, a5, a6, a7, a8, a9, a10, a11, a12, a13, a14, a15, a16, a17, a18, a19, a20, a21, a22, a23, a24, a25, a26) := by
  obtain ⟨c10, c11, c20, c21, c70, c71, c80, c81, c60, c61, cD, cB0, cB1, cW0, cW1⟩ := hF
  exact Exists.intro (0 + 1 + 1 + 1) (br_f (by decide) ⟨qz_v0 24, br_f (by rw [c10]; decide) (And.intro (qz_v0 24) (br_f (by rw [c10]; decide) (br_t (by decide) (nm_r (e' := 1) (by decide) (br_f (by decide) ⟨qz_v1 24, br_t c11 ⟨qz_v1 24,
    br_f (by rw [c21]; decide) ⟨qz_v1 24, nm_r c21 (And.intro (qz_v1 24) (br_f (by rw [c11]; decide) (br_f (by decide) (nm_r (e' := 2) (by decide) (br_t (by decide) hp)))))⟩⟩⟩)))))⟩)
theorem qz_nF {post : Int32 → Prop} {D am dp mk dt tc mv T0 T1 st B0 B1 wt : Int32} {e : Nat} {f3 f7 f13 f14 : Int32} {a1 a2 a3 a4 a5 a6 a7 a8 a9 a10 a11 a12 a13 a14 a15 a16 a17 a18 a19 a20 a21 a22 a23 a24 a25 a26 : Nat → Int32} (hF : qz_F D am T0 T1 st B0 B1 wt a1 a2 a6 a7 a8 a12 a13 a14 a15 a16 a17 a18 a19) (hp : post 1000000) : wpX_nextChange post (2, 2, f3, D, (nI e), dp, f7, mk, dt, tc, mv, 5, f13, f14, a1, a2, a3, a4, a5, a6, a7, a8, a9, a10, a11, a12, a13, a14, a15, a16, a17, a18, a19, a20, a21, a22, a23, a24, a25, a26) := by
  obtain ⟨c10, c11, c20, c21, c70, c71, c80, c81, c60, c61, cD, cB0, cB1, cW0, cW1⟩ := hF
  exact Exists.intro (0 + 1 + 1 + 1) (br_f (by decide) ⟨qz_v0 24, br_f (by rw [c10]; decide) (And.intro (qz_v0 24) (br_f (by rw [c10]; decide) (br_t (by decide) (nm_r (e' := 1) (by decide) (br_f (by decide) ⟨qz_v1 24, br_t c11 ⟨qz_v1 24,
    br_t (by rw [c21]; decide) (And.intro (qz_v1 24) (br_f (by rw [c11]; decide) (br_t (by decide) (nm_r (e' := 2) (by decide) (br_t (by decide) hp)))))⟩⟩)))))⟩)
theorem qz_go {post : St2 → Prop} {D am dp mk mv td T0 st B0 B1 wt : Int32} {e : Nat} (hp : qz_K post D am e dp mk 0 D mv 5 T0 1 st B0 B1 wt) : qz_K (fun u => wpX_goTo post u 5) D am e dp mk 0 0 mv td T0 0 st B0 B1 wt := by
  intro f3 f7 f13 f14 a1 a2 a3 a4 a5 a6 a7 a8 a9 a10 a11 a12 a13 a14 a15 a16 a17 a18 a19 a20 a21 a22 a23 a24 a25 a26 hF
  have hF' := hF
  obtain ⟨c10, c11, c20, c21, c70, c71, c80, c81, c60, c61, cD, cB0, cB1, cW0, cW1⟩ := hF
  refine Exists.intro (0 + 1 + 1 + 1) (br_f (by decide) ⟨qz_v0 24, br_f (by rw [c10]; decide) ⟨qz_v0 24, br_f (by rw [c10]; decide) (nm_r (e' := 1) (by decide) (br_f (by decide) ⟨qz_v1 24, br_t c11
    (nm_r (e' := 2) (by decide) (nm_r (e' := 2) (by decide) (br_t (by decide) ?_)))⟩))⟩⟩)
  refine qz_pa1 ?_ _ _ _ _ _ _ _ _ _ _ _ _ _ _ _ _ _ _ _ _ _ _ _ _ _ _ _ _ _ _ hF'
  intro f3 f7 f13 f14 a1 a2 a3 a4 a5 a6 a7 a8 a9 a10 a11 a12 a13 a14 a15 a16 a17 a18 a19 a20 a21 a22 a23 a24 a25 a26 h
  exact hp _ _ _ _ _ _ _ _ _ _ _ _ _ _ _ _ _ _ _ _ _ _ _ _ _ _ _ _ _ _ h
theorem qz_far {x : Int32} (h : x ≤ 60) : ¬ 1000000 ≤ x := by
  rw [Int32.le_iff_toInt_le] at *
  have e1 : (60 : Int32).toInt = 60 := by decide
  have e2 : (1000000 : Int32).toInt = 1000000 := by decide
  omega
theorem qz_2000 {x : Int32} (h : x ≤ 60) : 0 + x ≤ 2000 := by
  rw [Int32.zero_add]
  rw [Int32.le_iff_toInt_le] at *
  have e1 : (60 : Int32).toInt = 60 := by decide
  have e2 : (2000 : Int32).toInt = 2000 := by decide
  omega
theorem qz_ab {post : Int32 → St2 → Prop} {f1 f2 f3 f4 f5 f6 f7 f8 f9 f10 f11 f12 f13 f14 x : Int32} {a1 a2 a3 a4 a5 a6 a7 a8 a9 a10 a11 a12 a13 a14 a15 a16 a17 a18 a19 a20 a21 a22 a23 a24 a25 a26 : Nat → Int32} (h : x < 1 ∨ ¬ x ≤ 60) (hp : post (-1) (f1, f2, f3, f4, f5, f6, f7, f8, f9, f10, f11, f12, f13, f14, a1, a2, a3, a4, a5, a6, a7, a8, a9, a10, a11, a12, a13, a14, a15, a16, a17, a18, a19, a20, a21, a22, a23, a24, a25, a26)) : wpX_advance post (f1, f2, f3, f4, f5, f6, f7, f8, f9, f10, f11, f12, f13, f14, a1, a2, a3, a4, a5, a6, a7, a8, a9, a10, a11, a12, a13, a14, a15, a16, a17, a18, a19, a20, a21, a22, a23, a24, a25, a26) x := by
  by_cases a : x < 1
  · exact br_t a hp
  · rcases h with b | b
    · exact absurd b a
    · exact br_f a (br_f b hp)
/-- the day's node isn't reached -/
theorem qz_as {post : Int32 → St2 → Prop} {D am dp mk dt tc mv T0 T1 st B0 B1 wt : Int32} {e : Nat} {x : Int32} (h1 : ¬ x < 1) (h2 : x ≤ 60) (h5 : ¬ 5 ≤ x) (hp : qz_K (post 0) D am e dp mk dt tc mv x T0 T1 st B0 B1 wt) : qz_K (fun u => wpX_advance post u x) D am e dp mk dt tc mv 0 T0 T1 st B0 B1 wt := by
  intro f3 f7 f13 f14 a1 a2 a3 a4 a5 a6 a7 a8 a9 a10 a11 a12 a13 a14 a15 a16 a17 a18 a19 a20 a21 a22 a23 a24 a25 a26 hF
  exact br_f h1 (br_t h2 (br_t (qz_2000 h2) (nm_r (Int32.zero_add x) (Exists.intro (0 + 1) (br_f (by decide) (qz_n5 hF (br_f h5 (hp _ _ _ _ _ _ _ _ _ _ _ _ _ _ _ _ _ _ _ _ _ _ _ _ _ _ _ _ _ _ hF))))))))
/-- the day's node is reached -/
theorem qz_al {post : Int32 → St2 → Prop} {D am dp mk T0 st B0 B1 wt : Int32} {e : Nat} {x r st' B0' : Int32} {e' : Nat} (h1 : ¬ x < 1) (h2 : x ≤ 60) (h5 : 5 ≤ x)
    (hs : ∀ Q : Int32 → St2 → Prop, qz_K (Q r) D am e' dp mk 0 0 0 5 T0 1 st' B0' B1 wt → qz_K (wpX_settle Q) D am e dp mk 0 D 0 5 T0 1 st B0 B1 wt)
    (hp : qz_K (post r) D am e' dp mk 0 0 0 x T0 1 st' B0' B1 wt) : qz_K (fun u => wpX_advance post u x) D am e dp mk 0 0 0 0 T0 0 st B0 B1 wt := by
  intro f3 f7 f13 f14 a1 a2 a3 a4 a5 a6 a7 a8 a9 a10 a11 a12 a13 a14 a15 a16 a17 a18 a19 a20 a21 a22 a23 a24 a25 a26 hF
  refine br_f h1 (br_t h2 (br_t (qz_2000 h2) (nm_r (Int32.zero_add x) (Exists.intro (0 + 1 + 1) (br_f (by decide) (qz_n5 hF (br_t h5 (qz_go ?_ _ _ _ _ _ _ _ _ _ _ _ _ _ _ _ _ _ _ _ _ _ _ _ _ _ _ _ _ _ _ hF))))))))
  intro f3 f7 f13 f14 a1 a2 a3 a4 a5 a6 a7 a8 a9 a10 a11 a12 a13 a14 a15 a16 a17 a18 a19 a20 a21 a22 a23 a24 a25 a26 h
  refine hs _ ?_ _ _ _ _ _ _ _ _ _ _ _ _ _ _ _ _ _ _ _ _ _ _ _ _ _ _ _ _ _ _ h
  intro f3 f7 f13 f14 a1 a2 a3 a4 a5 a6 a7 a8 a9 a10 a11 a12 a13 a14 a15 a16 a17 a18 a19 a20 a21 a22 a23 a24 a25 a26 h'
  exact nm_r (Int32.zero_add r) (nm_r (e' := 1) (by decide) (br_f (by decide) (qz_nF h' (br_f (qz_far h2) (hp _ _ _ _ _ _ _ _ _ _ _ _ _ _ _ _ _ _ _ _ _ _ _ _ _ _ _ _ _ _ h')))))
/-- days that move nothing -/
theorem qz_ar {post : Int32 → St2 → Prop} {D am dp mk T0 st B0 B1 wt : Int32} {e : Nat} {x : Int32} (h1 : ¬ x < 1) (h2 : x ≤ 60) (rs : qz_rs D am st B0)
    (hp : ∀ T1 : Int32, qz_K (post 0) D am e dp mk 0 0 0 x T0 T1 st B0 B1 wt) : qz_K (fun u => wpX_advance post u x) D am e dp mk 0 0 0 0 T0 0 st B0 B1 wt := by
  by_cases h5 : 5 ≤ x
  · exact qz_al h1 h2 h5 (fun Q hQ => qz_se0 (qz_rs_se rs rfl) hQ) (hp 1)
  · exact qz_as h1 h2 h5 (hp 0)
/-- days that pay a held deal back -/
theorem qz_a4 {post : Int32 → St2 → Prop} {am dp mk B0 B1 : Int32} {e : Nat} {x : Int32} (h1 : ¬ x < 1) (h2 : x ≤ 60) (h5 : 5 ≤ x) (he : e < 64)
    (hp : qz_K (post 1) 1 am (e + 1) dp mk 0 0 0 x 0 1 4 (B0 + am) B1 0) : qz_K (fun u => wpX_advance post u x) 1 am e dp mk 0 0 0 0 0 0 2 B0 B1 0 :=
  qz_al h1 h2 h5 (fun Q hQ => qz_se3 he (by decide) hQ) hp
end
section
/-! the law's joins, from the bottom -/
theorem qz_bal0 {post : Int32 → Prop} {f2 f3 f4 f5 f6 f7 f8 f9 f10 f11 f12 f13 f14 : Int32} {a1 a2 a3 a4 a5 a6 a7 a8 a9 a10 a11 a12 a13 a14 a15 a16 a17 a18 a19 a20 a21 a22 a23 a24 a25 a26 : Nat → Int32} (hp : post (a18 (0 : Int32).toNatClampNeg)) : wpX_balance post (2, f2, f3, f4, f5, f6, f7, f8, f9, f10, f11, f12, f13, f14, a1, a2, a3, a4, a5, a6, a7, a8, a9, a10, a11, a12, a13, a14, a15, a16, a17, a18, a19, a20, a21, a22, a23, a24, a25, a26) 0 := by
  unfold wpX_balance
  exact qz_acc0 (br_f (by decide) ⟨qz_v0 6, hp⟩)
theorem qz_bal1 {post : Int32 → Prop} {f2 f3 f4 f5 f6 f7 f8 f9 f10 f11 f12 f13 f14 : Int32} {a1 a2 a3 a4 a5 a6 a7 a8 a9 a10 a11 a12 a13 a14 a15 a16 a17 a18 a19 a20 a21 a22 a23 a24 a25 a26 : Nat → Int32} (hp : post (a18 (1 : Int32).toNatClampNeg)) : wpX_balance post (2, f2, f3, f4, f5, f6, f7, f8, f9, f10, f11, f12, f13, f14, a1, a2, a3, a4, a5, a6, a7, a8, a9, a10, a11, a12, a13, a14, a15, a16, a17, a18, a19, a20, a21, a22, a23, a24, a25, a26) 1 := by
  unfold wpX_balance
  exact qz_acc1 (br_f (by decide) ⟨qz_v1 6, hp⟩)
theorem qz_365 {post : Int32 → St0 → Prop} {mc ms kc ks : Nat} {x0 x8 x12 : Int32} {D am dp mk dt tc mv td T0 T1 st B0 B1 wt : Int32} {e : Nat} {f3 f7 f13 f14 : Int32} {a1 a2 a3 a4 a5 a6 a7 a8 a9 a10 a11 a12 a13 a14 a15 a16 a17 a18 a19 a20 a21 a22 a23 a24 a25 a26 : Nat → Int32} (hF : qz_F D am T0 T1 st B0 B1 wt a1 a2 a6 a7 a8 a12 a13 a14 a15 a16 a17 a18 a19) (hq : post 1 ()) (h0 : B0 = x12) (h1 : (x8 = 0 ∧ B1 = 0) ∨ (¬ x8 = 0 ∧ B1 = x0)) :
    wL_lawOf_365 post mc ms x0 x8 x12 kc ks 2 2 f3 D (nI e) dp f7 mk dt tc mv td f13 f14 a1 a2 a3 a4 a5 a6 a7 a8 a9 a10 a11 a12 a13 a14 a15 a16 a17 a18 a19 a20 a21 a22 a23 a24 a25 a26 := by
  obtain ⟨c10, c11, c20, c21, c70, c71, c80, c81, c60, c61, cD, cB0, cB1, cW0, cW1⟩ := hF
  refine qz_bal0 (br_t (cB0.trans h0) (qz_bal1 ?_))
  rcases h1 with ⟨h8, hb⟩ | ⟨h8, hb⟩
  · exact br_t h8 (br_t (cB1.trans hb) hq)
  · exact br_f h8 (br_t (cB1.trans hb) hq)
def qz_lf (x0 x7 x10 B0 z : Int32) : Prop := (x7 = 0 ∧ B0 = z) ∨ (¬ x7 = 0 ∧ x10 = 0 ∧ B0 = z - x0) ∨ (¬ x7 = 0 ∧ ¬ x10 = 0 ∧ B0 = z)
theorem qz_347 {post : Int32 → St0 → Prop} {mc ms kc ks : Nat} {x0 x7 x8 x10 z0 : Int32} {D am dp mk dt tc mv td T0 T1 st B0 B1 wt : Int32} {e : Nat} {f3 f7 f13 f14 : Int32} {a1 a2 a3 a4 a5 a6 a7 a8 a9 a10 a11 a12 a13 a14 a15 a16 a17 a18 a19 a20 a21 a22 a23 a24 a25 a26 : Nat → Int32} (hF : qz_F D am T0 T1 st B0 B1 wt a1 a2 a6 a7 a8 a12 a13 a14 a15 a16 a17 a18 a19) (hq : post 1 ()) (h0 : qz_lf x0 x7 x10 B0 z0) (h1 : (x8 = 0 ∧ B1 = 0) ∨ (¬ x8 = 0 ∧ B1 = x0)) :
    wL_lawOf_347 post mc ms x0 x7 x8 x10 z0 kc ks 2 2 f3 D (nI e) dp f7 mk dt tc mv td f13 f14 a1 a2 a3 a4 a5 a6 a7 a8 a9 a10 a11 a12 a13 a14 a15 a16 a17 a18 a19 a20 a21 a22 a23 a24 a25 a26 := by
  rcases h0 with ⟨h7, h⟩ | ⟨h7, h10, h⟩ | ⟨h7, h10, h⟩
  · exact br_t h7 (qz_365 hF hq h h1)
  · exact br_f h7 (br_t h10 (nm_e (qz_365 hF hq h h1)))
  · exact br_f h7 (br_f h10 (qz_365 hF hq h h1))
theorem qz_322 {post : Int32 → St0 → Prop} {mc ms kc ks : Nat} {x0 x1 x6 x7 x8 x10 z0 lf : Int32} {D am dp mk dt tc mv td T0 T1 st B0 B1 wt : Int32} {e : Nat} {f3 f7 f13 f14 : Int32} {a1 a2 a3 a4 a5 a6 a7 a8 a9 a10 a11 a12 a13 a14 a15 a16 a17 a18 a19 a20 a21 a22 a23 a24 a25 a26 : Nat → Int32} (hF : qz_F D am T0 T1 st B0 B1 wt a1 a2 a6 a7 a8 a12 a13 a14 a15 a16 a17 a18 a19) (hq : post 1 ()) (hs : (D = 0 ∧ z0 = -1) ∨ (D = 1 ∧ z0 = st))
    (hl : (x6 = 0 ∧ lf = 0) ∨ (¬ x6 = 0 ∧ lf = x1)) (h0 : qz_lf x0 x7 x10 B0 lf) (h1 : (x8 = 0 ∧ B1 = 0) ∨ (¬ x8 = 0 ∧ B1 = x0)) :
    wL_lawOf_322 post mc ms x0 x1 x6 x7 x8 x10 z0 kc ks 2 2 f3 D (nI e) dp f7 mk dt tc mv td f13 f14 a1 a2 a3 a4 a5 a6 a7 a8 a9 a10 a11 a12 a13 a14 a15 a16 a17 a18 a19 a20 a21 a22 a23 a24 a25 a26 := by
  have G : (x6 = 0 → wL_lawOf_347 post mc ms x0 x7 x8 x10 0 kc ks 2 2 f3 D (nI e) dp f7 mk dt tc mv td f13 f14 a1 a2 a3 a4 a5 a6 a7 a8 a9 a10 a11 a12 a13 a14 a15 a16 a17 a18 a19 a20 a21 a22 a23 a24 a25 a26) ∧ (¬ x6 = 0 → wL_lawOf_347 post mc ms x0 x7 x8 x10 x1 kc ks 2 2 f3 D (nI e) dp f7 mk dt tc mv td f13 f14 a1 a2 a3 a4 a5 a6 a7 a8 a9 a10 a11 a12 a13 a14 a15 a16 a17 a18 a19 a20 a21 a22 a23 a24 a25 a26) := by
    rcases hl with ⟨h6, hb⟩ | ⟨h6, hb⟩
    · rw [hb] at h0
      exact br_t h6 (qz_347 hF hq h0 h1)
    · rw [hb] at h0
      exact br_f h6 (qz_347 hF hq h0 h1)
  rcases hs with ⟨hD, hz⟩ | ⟨hD, hz⟩
  · subst hD
    exact br_f (by decide) (br_t (by decide) (br_t rfl (br_t hz.symm G)))
  · subst hD
    obtain ⟨c10, c11, c20, c21, c70, c71, c80, c81, c60, c61, cD, cB0, cB1, cW0, cW1⟩ := hF
    obtain ⟨c12, c13, c14, c15, c16, c17⟩ := cD rfl
    exact br_f (by decide) (br_f (by decide) (br_f (by decide) ⟨qz_v0 12, br_t (c17.trans hz.symm) G⟩))
/-- what the law's variables say fits what the object holds -/
def qz_ok (x0 x1 x5 x6 x7 x8 x10 D st B0 B1 : Int32) : Prop := ∃ z lf : Int32,
  ((x5 = 0 ∧ z = -1) ∨ (¬ x5 = 0 ∧ x7 = 0 ∧ z = 1) ∨ (¬ x5 = 0 ∧ ¬ x7 = 0 ∧ ¬ x8 = 0 ∧ z = 3) ∨ (¬ x5 = 0 ∧ ¬ x7 = 0 ∧ x8 = 0 ∧ x10 = 0 ∧ z = 2) ∨ (¬ x5 = 0 ∧ ¬ x7 = 0 ∧ x8 = 0 ∧ ¬ x10 = 0 ∧ z = 4)) ∧
  ((D = 0 ∧ z = -1) ∨ (D = 1 ∧ z = st)) ∧ ((x6 = 0 ∧ lf = 0) ∨ (¬ x6 = 0 ∧ lf = x1)) ∧ qz_lf x0 x7 x10 B0 lf ∧ ((x8 = 0 ∧ B1 = 0) ∨ (¬ x8 = 0 ∧ B1 = x0))
theorem qz_280 {post : Int32 → St0 → Prop} {mc ms kc ks : Nat} {x0 x1 x5 x6 x7 x8 x10 z0 z1 : Int32} {D am dp mk dt tc mv td T0 T1 st B0 B1 wt : Int32} {e : Nat} {f3 f7 f13 f14 : Int32} {a1 a2 a3 a4 a5 a6 a7 a8 a9 a10 a11 a12 a13 a14 a15 a16 a17 a18 a19 a20 a21 a22 a23 a24 a25 a26 : Nat → Int32} (hF : qz_F D am T0 T1 st B0 B1 wt a1 a2 a6 a7 a8 a12 a13 a14 a15 a16 a17 a18 a19) (hq : post 1 ()) (hz : z1 = z0) (ok : qz_ok x0 x1 x5 x6 x7 x8 x10 D st B0 B1) :
    wL_lawOf_280 post mc ms x0 x1 x5 x6 x7 x8 x10 z0 z1 kc ks 2 2 f3 D (nI e) dp f7 mk dt tc mv td f13 f14 a1 a2 a3 a4 a5 a6 a7 a8 a9 a10 a11 a12 a13 a14 a15 a16 a17 a18 a19 a20 a21 a22 a23 a24 a25 a26 := by
  obtain ⟨z, lf, hv, hs, hl, h0, h1⟩ := ok
  rcases hv with ⟨h5, rfl⟩ | ⟨h5, h7, rfl⟩ | ⟨h5, h7, h8, rfl⟩ | ⟨h5, h7, h8, h10, rfl⟩ | ⟨h5, h7, h8, h10, rfl⟩
  · exact br_t hz (br_t h5 (qz_322 hF hq hs hl h0 h1))
  · exact br_t hz (br_f h5 (br_t h7 (qz_322 hF hq hs hl h0 h1)))
  · exact br_t hz (br_f h5 (br_f h7 (br_f h8 (qz_322 hF hq hs hl h0 h1))))
  · exact br_t hz (br_f h5 (br_f h7 (br_t h8 (br_t h10 (qz_322 hF hq hs hl h0 h1)))))
  · exact br_t hz (br_f h5 (br_f h7 (br_t h8 (br_f h10 (qz_322 hF hq hs hl h0 h1)))))
/-- days that aren't taken -/
theorem qz_253b {post : Int32 → St0 → Prop} {mc ms kc ks : Nat} {x0 x1 x3 x5 x6 x7 x8 z0 : Int32} {D am dp mk dt tc mv td T0 T1 st B0 B1 wt : Int32} {e : Nat} {f3 f7 f13 f14 : Int32} {a1 a2 a3 a4 a5 a6 a7 a8 a9 a10 a11 a12 a13 a14 a15 a16 a17 a18 a19 a20 a21 a22 a23 a24 a25 a26 : Nat → Int32} (hF : qz_F D am T0 T1 st B0 B1 wt a1 a2 a6 a7 a8 a12 a13 a14 a15 a16 a17 a18 a19) (hq : post 1 ()) (hx : x3 < 1 ∨ ¬ x3 ≤ 60) (ok : qz_ok x0 x1 x5 x6 x7 x8 z0 D st B0 B1) :
    wL_lawOf_253 post mc ms x0 x1 x3 x5 x6 x7 x8 0 z0 kc ks 2 2 f3 D (nI e) dp f7 mk dt tc mv td f13 f14 a1 a2 a3 a4 a5 a6 a7 a8 a9 a10 a11 a12 a13 a14 a15 a16 a17 a18 a19 a20 a21 a22 a23 a24 a25 a26 :=
  qz_ab hx (br_t rfl (qz_280 hF hq rfl ok))
/-- the law behind a mark, where no day moves anything -/
theorem qz_205r {post : Int32 → St0 → Prop} {mc ms kc ks : Nat} {x0 x1 x3 x5 x6 x7 x8 z0 z1 : Int32} {D am dp mk T0 st B0 B1 wt : Int32} {e : Nat} {f3 f7 f13 f14 : Int32} {a1 a2 a3 a4 a5 a6 a7 a8 a9 a10 a11 a12 a13 a14 a15 a16 a17 a18 a19 a20 a21 a22 a23 a24 a25 a26 : Nat → Int32} (hF : qz_F D am T0 0 st B0 B1 wt a1 a2 a6 a7 a8 a12 a13 a14 a15 a16 a17 a18 a19) (hq : post 1 ()) (hz : z1 = z0) (rs : qz_rs D am st B0)
    (h78 : x7 = 0 ∨ (¬ x7 = 0 ∧ ¬ x8 = 0)) (ok : qz_ok x0 x1 x5 x6 x7 x8 0 D st B0 B1) :
    wL_lawOf_205 post mc ms x0 x1 x3 x5 x6 x7 x8 z0 z1 kc ks 2 2 f3 D (nI e) dp f7 mk 0 0 0 0 f13 f14 a1 a2 a3 a4 a5 a6 a7 a8 a9 a10 a11 a12 a13 a14 a15 a16 a17 a18 a19 a20 a21 a22 a23 a24 a25 a26 := by
  have J : ∀ x9 : Int32, wL_lawOf_253 post mc ms x0 x1 x3 x5 x6 x7 x8 x9 0 kc ks 2 2 f3 D (nI e) dp f7 mk 0 0 0 0 f13 f14 a1 a2 a3 a4 a5 a6 a7 a8 a9 a10 a11 a12 a13 a14 a15 a16 a17 a18 a19 a20 a21 a22 a23 a24 a25 a26 → wL_lawOf_226 post mc ms x0 x1 x3 x5 x6 x7 x8 x9 kc ks 2 2 f3 D (nI e) dp f7 mk 0 0 0 0 f13 f14 a1 a2 a3 a4 a5 a6 a7 a8 a9 a10 a11 a12 a13 a14 a15 a16 a17 a18 a19 a20 a21 a22 a23 a24 a25 a26 := by
    intro x9 h
    rcases h78 with h7 | ⟨h7, h8⟩
    · exact br_t h7 h
    · exact br_f h7 (br_f h8 h)
  refine br_t hz ?_
  by_cases a : x3 < 1
  · exact br_t a (J 0 (qz_253b hF hq (Or.inl a) ok))
  · by_cases b : 60 < x3
    · exact br_f a (br_t b (J 0 (qz_253b hF hq (Or.inr (Int32.not_le.mpr b)) ok)))
    · refine br_f a (br_f b (J 1 ?_))
      refine qz_ar a (Int32.not_lt.mp b) rs ?_ _ _ _ _ _ _ _ _ _ _ _ _ _ _ _ _ _ _ _ _ _ _ _ _ _ _ _ _ _ _ hF
      intro T1' f3 f7 f13 f14 a1 a2 a3 a4 a5 a6 a7 a8 a9 a10 a11 a12 a13 a14 a15 a16 a17 a18 a19 a20 a21 a22 a23 a24 a25 a26 h
      exact br_f (by decide) (br_t rfl (qz_280 h hq rfl ok))
/-- the law behind a mark, the deal held -/
theorem qz_205h {post : Int32 → St0 → Prop} {mc ms kc ks : Nat} {x0 x1 x3 x5 x6 x7 x8 z0 z1 : Int32} {am dp mk B0 B1 : Int32} {e : Nat} {f3 f7 f13 f14 : Int32} {a1 a2 a3 a4 a5 a6 a7 a8 a9 a10 a11 a12 a13 a14 a15 a16 a17 a18 a19 a20 a21 a22 a23 a24 a25 a26 : Nat → Int32} (hF : qz_F 1 am 0 0 2 B0 B1 0 a1 a2 a6 a7 a8 a12 a13 a14 a15 a16 a17 a18 a19) (hq : post 1 ()) (hz : z1 = z0) (he : e < 64)
    (h7 : ¬ x7 = 0) (h8 : x8 = 0) (ok : qz_ok x0 x1 x5 x6 x7 x8 0 1 2 B0 B1) (ok1 : qz_ok x0 x1 x5 x6 x7 x8 1 1 4 (B0 + am) B1) :
    wL_lawOf_205 post mc ms x0 x1 x3 x5 x6 x7 x8 z0 z1 kc ks 2 2 f3 1 (nI e) dp f7 mk 0 0 0 0 f13 f14 a1 a2 a3 a4 a5 a6 a7 a8 a9 a10 a11 a12 a13 a14 a15 a16 a17 a18 a19 a20 a21 a22 a23 a24 a25 a26 := by
  refine br_t hz ?_
  by_cases a : x3 < 1
  · exact br_t a (br_f h7 (br_t h8 (br_t rfl (qz_253b hF hq (Or.inl a) ok))))
  · by_cases b : 60 < x3
    · exact br_f a (br_t b (br_f h7 (br_t h8 (br_t rfl (qz_253b hF hq (Or.inr (Int32.not_le.mpr b)) ok)))))
    · by_cases c : x3 < 5
      · refine br_f a (br_f b (br_f h7 (br_t h8 (br_f (by decide) (br_t c ?_)))))
        unfold wL_lawOf_252 wL_lawOf_253
        refine qz_as a (Int32.not_lt.mp b) (Int32.not_le.mpr c) ?_ _ _ _ _ _ _ _ _ _ _ _ _ _ _ _ _ _ _ _ _ _ _ _ _ _ _ _ _ _ _ hF
        intro f3 f7 f13 f14 a1 a2 a3 a4 a5 a6 a7 a8 a9 a10 a11 a12 a13 a14 a15 a16 a17 a18 a19 a20 a21 a22 a23 a24 a25 a26 h
        exact br_f (by decide) (br_t rfl (qz_280 h hq rfl ok))
      · refine br_f a (br_f b (br_f h7 (br_t h8 (br_f (by decide) (br_f c ?_)))))
        refine qz_a4 a (Int32.not_lt.mp b) (Int32.not_lt.mp c) he ?_ _ _ _ _ _ _ _ _ _ _ _ _ _ _ _ _ _ _ _ _ _ _ _ _ _ _ _ _ _ _ hF
        intro f3 f7 f13 f14 a1 a2 a3 a4 a5 a6 a7 a8 a9 a10 a11 a12 a13 a14 a15 a16 a17 a18 a19 a20 a21 a22 a23 a24 a25 a26 h
        exact br_f (by decide) (br_f (by decide) (qz_280 h hq rfl ok1))
/-- the law behind the deposit, where nothing is held -/
theorem qz_167r {post : Int32 → St0 → Prop} {mc ms kc ks : Nat} {x0 x1 x2 x3 x5 x6 x7 z0 z1 : Int32} {D am dp st B0 B1 wt : Int32} {e : Nat} {f3 f7 f13 f14 : Int32} {a1 a2 a3 a4 a5 a6 a7 a8 a9 a10 a11 a12 a13 a14 a15 a16 a17 a18 a19 a20 a21 a22 a23 a24 a25 a26 : Nat → Int32} (hF : qz_F D am 0 0 st B0 B1 wt a1 a2 a6 a7 a8 a12 a13 a14 a15 a16 a17 a18 a19) (hq : post 1 ()) (hz : z1 = z0) (rs : qz_rs D am st B0)
    (h7 : x7 = 0) (ok : qz_ok x0 x1 x5 x6 x7 0 0 D st B0 B1) :
    wL_lawOf_167 post mc ms x0 x1 x2 x3 x5 x6 x7 z0 z1 kc ks 2 2 f3 D (nI e) dp f7 0 0 0 0 0 f13 f14 a1 a2 a3 a4 a5 a6 a7 a8 a9 a10 a11 a12 a13 a14 a15 a16 a17 a18 a19 a20 a21 a22 a23 a24 a25 a26 := by
  refine br_t hz (br_t h7 ?_)
  unfold wL_lawOf_185 wL_lawOf_186
  refine qz_mr rs ?_ _ _ _ _ _ _ _ _ _ _ _ _ _ _ _ _ _ _ _ _ _ _ _ _ _ _ _ _ _ _ hF
  intro mk' T0' f3 f7 f13 f14 a1 a2 a3 a4 a5 a6 a7 a8 a9 a10 a11 a12 a13 a14 a15 a16 a17 a18 a19 a20 a21 a22 a23 a24 a25 a26 h
  exact br_t rfl (qz_205r h hq rfl rs (Or.inl h7) ok)
/-- the law behind the deposit, the deal held -/
theorem qz_167h {post : Int32 → St0 → Prop} {mc ms kc ks : Nat} {x0 x1 x2 x3 x5 x6 x7 z0 z1 : Int32} {am dp B0 B1 : Int32} {e : Nat} {f3 f7 f13 f14 : Int32} {a1 a2 a3 a4 a5 a6 a7 a8 a9 a10 a11 a12 a13 a14 a15 a16 a17 a18 a19 a20 a21 a22 a23 a24 a25 a26 : Nat → Int32} (hF : qz_F 1 am 0 0 2 B0 B1 0 a1 a2 a6 a7 a8 a12 a13 a14 a15 a16 a17 a18 a19) (hq : post 1 ()) (hz : z1 = z0) (he : e < 63)
    (h7 : ¬ x7 = 0) (ok : qz_ok x0 x1 x5 x6 x7 0 0 1 2 B0 B1) (ok1 : qz_ok x0 x1 x5 x6 x7 0 1 1 4 (B0 + am) B1) (ok2 : qz_ok x0 x1 x5 x6 x7 1 0 1 3 B0 (B1 + am)) :
    wL_lawOf_167 post mc ms x0 x1 x2 x3 x5 x6 x7 z0 z1 kc ks 2 2 f3 1 (nI e) dp f7 0 0 0 0 0 f13 f14 a1 a2 a3 a4 a5 a6 a7 a8 a9 a10 a11 a12 a13 a14 a15 a16 a17 a18 a19 a20 a21 a22 a23 a24 a25 a26 := by
  by_cases a : x2 = 0
  · refine br_t hz (br_f h7 (br_t a ?_))
    unfold wL_lawOf_185 wL_lawOf_186
    refine qz_mh a ?_ _ _ _ _ _ _ _ _ _ _ _ _ _ _ _ _ _ _ _ _ _ _ _ _ _ _ _ _ _ _ hF
    intro f3 f7 f13 f14 a1 a2 a3 a4 a5 a6 a7 a8 a9 a10 a11 a12 a13 a14 a15 a16 a17 a18 a19 a20 a21 a22 a23 a24 a25 a26 h
    exact br_t rfl (qz_205h h hq rfl (by omega) h7 rfl ok ok1)
  · refine br_t hz (br_f h7 (br_f a ?_))
    refine qz_m1 a (by omega) ?_ _ _ _ _ _ _ _ _ _ _ _ _ _ _ _ _ _ _ _ _ _ _ _ _ _ _ _ _ _ _ hF
    intro f3 f7 f13 f14 a1 a2 a3 a4 a5 a6 a7 a8 a9 a10 a11 a12 a13 a14 a15 a16 a17 a18 a19 a20 a21 a22 a23 a24 a25 a26 h
    exact br_f (by decide) (qz_205r h hq rfl (Or.inr ⟨rfl, Or.inr rfl⟩) (Or.inr ⟨h7, by decide⟩) ok2)
end
section
/-! the law's top -/
theorem qz_0x (x : Int32) : 0 + x = x := Int32.zero_add x
theorem qz_pos {x : Int32} (h : ¬ x < 1) : 0 < x := by
  rw [Int32.lt_iff_toInt_lt] at *
  have e1 : (0 : Int32).toInt = 0 := by decide
  have e2 : (1 : Int32).toInt = 1 := by decide
  omega
/-- deposit that isn't taken, or is taken and funds nothing: no deal -/
theorem qz_94n {post : Int32 → St0 → Prop} {mc ms kc ks : Nat} {x0 x1 x2 x3 z0 z1 : Int32} {am st : Int32} {f3 f7 f13 f14 : Int32} {a1 a2 a3 a4 a5 a6 a7 a8 a9 a10 a11 a12 a13 a14 a15 a16 a17 a18 a19 a20 a21 a22 a23 a24 a25 a26 : Nat → Int32} (hF : qz_F 0 am 0 0 st 0 0 0 a1 a2 a6 a7 a8 a12 a13 a14 a15 a16 a17 a18 a19) (hq : post 1 ()) (hz : z1 = z0) :
    wL_lawOf_94 post mc ms x0 x1 x2 x3 0 z0 z1 kc ks 2 2 f3 0 (nI 0) 0 f7 0 0 0 0 0 f13 f14 a1 a2 a3 a4 a5 a6 a7 a8 a9 a10 a11 a12 a13 a14 a15 a16 a17 a18 a19 a20 a21 a22 a23 a24 a25 a26 := by
  refine br_t hz ?_
  have bad : (x1 < 1 ∨ ¬ x1 ≤ 1000) → wL_lawOf_116 post mc ms x0 x1 x2 x3 0 0 kc ks 2 2 f3 0 (nI 0) 0 f7 0 0 0 0 0 f13 f14 a1 a2 a3 a4 a5 a6 a7 a8 a9 a10 a11 a12 a13 a14 a15 a16 a17 a18 a19 a20 a21 a22 a23 a24 a25 a26 := by
    intro h
    refine br_t rfl ?_
    unfold wL_lawOf_137 wL_lawOf_138
    exact (qz_db h (br_t rfl (qz_167r hF hq rfl (Or.inl rfl) rfl ⟨-1, 0, Or.inl ⟨rfl, rfl⟩, Or.inl ⟨rfl, rfl⟩, Or.inl ⟨rfl, rfl⟩, Or.inl ⟨rfl, rfl⟩, Or.inl ⟨rfl, rfl⟩⟩)))
  by_cases a : x1 < 1
  · exact br_t a (bad (Or.inl a))
  · by_cases b : 1000 < x1
    · exact br_f a (br_t b (bad (Or.inr (Int32.not_le.mpr b))))
    · refine br_f a (br_f b (br_t rfl ?_))
      unfold wL_lawOf_137 wL_lawOf_138
      refine qz_dg (r := 0) (e' := 1) (st' := st) (B0' := 0 + x1) (wt' := 0) a (Int32.not_lt.mp b) (by omega) (fun Q hQ => qz_se0 (Or.inl rfl) hQ) ?_ _ _ _ _ _ _ _ _ _ _ _ _ _ _ _ _ _ _ _ _ _ _ _ _ _ _ _ _ _ _ hF
      intro f3 f7 f13 f14 a1 a2 a3 a4 a5 a6 a7 a8 a9 a10 a11 a12 a13 a14 a15 a16 a17 a18 a19 a20 a21 a22 a23 a24 a25 a26 h
      exact br_f (by decide) (br_t rfl (qz_167r h hq rfl (Or.inl rfl) rfl ⟨-1, x1, Or.inl ⟨rfl, rfl⟩, Or.inl ⟨rfl, rfl⟩, Or.inr ⟨by decide, rfl⟩, Or.inl ⟨rfl, qz_0x x1⟩, Or.inl ⟨rfl, rfl⟩⟩))
/-- the same, with a deal of x0 -/
theorem qz_94d {post : Int32 → St0 → Prop} {mc ms kc ks : Nat} {x0 x1 x2 x3 z0 z1 : Int32} {f3 f7 f13 f14 : Int32} {a1 a2 a3 a4 a5 a6 a7 a8 a9 a10 a11 a12 a13 a14 a15 a16 a17 a18 a19 a20 a21 a22 a23 a24 a25 a26 : Nat → Int32} (hF : qz_F 1 x0 0 0 1 0 0 1 a1 a2 a6 a7 a8 a12 a13 a14 a15 a16 a17 a18 a19) (hq : post 1 ()) (hz : z1 = z0) (h0 : 0 < x0) :
    wL_lawOf_94 post mc ms x0 x1 x2 x3 1 z0 z1 kc ks 2 2 f3 1 (nI 0) 0 f7 0 0 0 0 0 f13 f14 a1 a2 a3 a4 a5 a6 a7 a8 a9 a10 a11 a12 a13 a14 a15 a16 a17 a18 a19 a20 a21 a22 a23 a24 a25 a26 := by
  refine br_t hz ?_
  have bad : (x1 < 1 ∨ ¬ x1 ≤ 1000) → wL_lawOf_116 post mc ms x0 x1 x2 x3 1 0 kc ks 2 2 f3 1 (nI 0) 0 f7 0 0 0 0 0 f13 f14 a1 a2 a3 a4 a5 a6 a7 a8 a9 a10 a11 a12 a13 a14 a15 a16 a17 a18 a19 a20 a21 a22 a23 a24 a25 a26 := by
    intro h
    refine br_f (by decide) (br_t rfl ?_)
    unfold wL_lawOf_137 wL_lawOf_138
    exact ((qz_db h (br_t rfl (qz_167r hF hq rfl (Or.inr ⟨rfl, Or.inl ⟨rfl, h0⟩⟩) rfl ⟨1, 0, Or.inr (Or.inl ⟨by decide, rfl, rfl⟩), Or.inr ⟨rfl, rfl⟩, Or.inl ⟨rfl, rfl⟩, Or.inl ⟨rfl, rfl⟩, Or.inl ⟨rfl, rfl⟩⟩))))
  by_cases a : x1 < 1
  · exact br_t a (bad (Or.inl a))
  · by_cases b : 1000 < x1
    · exact br_f a (br_t b (bad (Or.inr (Int32.not_le.mpr b))))
    · by_cases c : x1 < x0
      · refine br_f a (br_f b (br_f (by decide) (br_f (by decide) (br_t c ?_))))
        have c' : 0 + x1 < x0 := by
          rw [qz_0x]
          exact c
        unfold wL_lawOf_137 wL_lawOf_138
        refine qz_dg (r := 0) (e' := 1) (st' := 1) (B0' := 0 + x1) (wt' := 1) a (Int32.not_lt.mp b) (by omega) (fun Q hQ => qz_se0 (Or.inr (Or.inr ⟨rfl, rfl, Or.inl ⟨rfl, c'⟩⟩)) hQ) ?_ _ _ _ _ _ _ _ _ _ _ _ _ _ _ _ _ _ _ _ _ _ _ _ _ _ _ _ _ _ _ hF
        intro f3 f7 f13 f14 a1 a2 a3 a4 a5 a6 a7 a8 a9 a10 a11 a12 a13 a14 a15 a16 a17 a18 a19 a20 a21 a22 a23 a24 a25 a26 h
        exact br_f (by decide) (br_t rfl (qz_167r h hq rfl (Or.inr ⟨rfl, Or.inl ⟨rfl, c'⟩⟩) rfl ⟨1, x1, Or.inr (Or.inl ⟨by decide, rfl, rfl⟩), Or.inr ⟨rfl, rfl⟩, Or.inr ⟨by decide, rfl⟩, Or.inl ⟨rfl, qz_0x x1⟩, Or.inl ⟨rfl, rfl⟩⟩))
      · refine br_f a (br_f b (br_f (by decide) (br_f (by decide) (br_f c ?_))))
        have c' : ¬ 0 + x1 < x0 := by
          rw [qz_0x]
          exact c
        unfold wL_lawOf_138
        refine qz_dg (r := 1) (e' := 2) (st' := 2) (B0' := 0 + x1 + -x0) (wt' := 0) a (Int32.not_lt.mp b) (by omega) (fun Q hQ => qz_se1 (by omega) c' hQ) ?_ _ _ _ _ _ _ _ _ _ _ _ _ _ _ _ _ _ _ _ _ _ _ _ _ _ _ _ _ _ _ hF
        intro f3 f7 f13 f14 a1 a2 a3 a4 a5 a6 a7 a8 a9 a10 a11 a12 a13 a14 a15 a16 a17 a18 a19 a20 a21 a22 a23 a24 a25 a26 h
        have e1 : 0 + x1 + -x0 = x1 - x0 := by rw [qz_0x, Int32.sub_eq_add_neg]
        have e2 : 0 + x1 + -x0 + x0 = x1 := by grind
        have d : ¬ (1 : Int32) = 0 := by decide
        exact br_f d (br_f d (qz_167h h hq rfl (by omega) d
          ⟨2, x1, Or.inr (Or.inr (Or.inr (Or.inl ⟨d, d, rfl, rfl, rfl⟩))), Or.inr ⟨rfl, rfl⟩, Or.inr ⟨d, rfl⟩, Or.inr (Or.inl ⟨d, rfl, e1⟩), Or.inl ⟨rfl, rfl⟩⟩
          ⟨4, x1, Or.inr (Or.inr (Or.inr (Or.inr ⟨d, d, rfl, d, rfl⟩))), Or.inr ⟨rfl, rfl⟩, Or.inr ⟨d, rfl⟩, Or.inr (Or.inr ⟨d, d, e2⟩), Or.inl ⟨rfl, rfl⟩⟩
          ⟨3, x1, Or.inr (Or.inr (Or.inl ⟨d, d, d, rfl⟩)), Or.inr ⟨rfl, rfl⟩, Or.inr ⟨d, rfl⟩, Or.inr (Or.inl ⟨d, rfl, e1⟩), Or.inr ⟨d, qz_0x x0⟩⟩))
/-- the whole: every amount, deposit, mark and number of days -/
theorem qz_27n {post : Int32 → St0 → Prop} {mc ms kc ks : Nat} {x0 x1 x2 x3 : Int32} (a15 a16 : Nat → Int32) (hq : post 1 ()) (h : x0 < 1 ∨ ¬ x0 ≤ 1000) :
    wL_lawOf_27 post mc ms x0 x1 x2 x3 0 kc ks 2 0 0 0 0 0 0 0 0 0 0 0 0 0 (fun _ => 0) (fun _ => 0) (fun _ => 0) (fun _ => 0) (fun _ => 0) (fun _ => 0) (fun _ => 0) (fun _ => 0) (fun _ => 0) (fun _ => 0) (fun _ => 0) (fun _ => 0) (fun _ => 0) (fun _ => 0) a15 a16 (fun _ => 0) (fun _ => 0) (fun _ => 0) (fun _ => 0) (fun _ => 0) (fun _ => 0) (fun _ => 0) (fun _ => 0) (fun _ => 0) (fun _ => 0) := by
  refine qz_of0 h (br_t rfl (br_t rfl (qz_sg (br_t rfl (qz_af (br_t rfl (qz_te0 (br_t rfl ?_))))))))
  exact qz_94n (am := 0) (st := 0) ⟨by decide, by decide, by decide, by decide, by decide, by decide, by decide, by decide, by decide, by decide, fun z => absurd z (by decide), by decide, by decide, by decide, by decide⟩ hq rfl
theorem qz_27d {post : Int32 → St0 → Prop} {mc ms kc ks : Nat} {x0 x1 x2 x3 : Int32} (a15 a16 : Nat → Int32) (hq : post 1 ()) (h1 : ¬ x0 < 1) (h2 : x0 ≤ 1000) :
    wL_lawOf_27 post mc ms x0 x1 x2 x3 1 kc ks 2 0 0 0 0 0 0 0 0 0 0 0 0 0 (fun _ => 0) (fun _ => 0) (fun _ => 0) (fun _ => 0) (fun _ => 0) (fun _ => 0) (fun _ => 0) (fun _ => 0) (fun _ => 0) (fun _ => 0) (fun _ => 0) (fun _ => 0) (fun _ => 0) (fun _ => 0) a15 a16 (fun _ => 0) (fun _ => 0) (fun _ => 0) (fun _ => 0) (fun _ => 0) (fun _ => 0) (fun _ => 0) (fun _ => 0) (fun _ => 0) (fun _ => 0) := by
  refine qz_of1 h1 h2 (br_f (by decide) (br_t rfl (qz_sg (br_t rfl (qz_af (br_t rfl (qz_te1 (am := x0) (by decide) (by decide) (by decide) (by decide) (by decide) (by decide) (by decide) (by decide) (by decide) (by decide) (by decide) (by decide) pk_us (by decide) (by decide) (by decide) (by decide) (by decide) (qz_pos h1) ?_)))))))
  intro f3 f7 f13 f14 a1 a2 a3 a4 a5 a6 a7 a8 a9 a10 a11 a12 a13 a14 a15 a16 a17 a18 a19 a20 a21 a22 a23 a24 a25 a26 h
  exact br_f (by decide) (qz_94d h hq rfl (qz_pos h1))
theorem qz_lawOf {post : Int32 → St0 → Prop} {x0 x1 x2 x3 : Int32} (hq : post 1 ()) : wpL_lawOf post 27 2604 () x0 x1 x2 x3 := by
  refine ⟨by decide, by decide, 26, 2564, by decide, by decide, qz_init (fun a15 a16 => ?_)⟩
  by_cases a : x0 < 1
  · exact br_t a (qz_27n a15 a16 hq (Or.inl a))
  · by_cases b : 1000 < x0
    · exact br_f a (br_t b (qz_27n a15 a16 hq (Or.inr (Int32.not_le.mpr b))))
    · exact br_f a (br_f b (qz_27d a15 a16 hq a (Int32.not_lt.mp b)))
theorem qz_cell {post : Int32 → Prop} {L : Nat} {xs : Nat → Int32} (hL : L ≤ 4) (k : Nat) {p : Int32} (hp : p = nI k) (hk : k < 4) (h : ∀ r, post r) : wpL_cellAt post L xs () p :=
  pk_le L k (fun _ => h _) (fun z => ⟨pk_in k L z hp, h _⟩) rfl hp
theorem i_vc (xs : Nat → Int32) (L : Nat) (hL : L ≤ 4) : wpL_law (fun r => r = 1) L xs :=
  qz_cell hL 0 rfl (by omega) (fun _ => qz_cell hL 1 rfl (by omega) (fun _ => qz_cell hL 2 rfl (by omega) (fun _ => qz_cell hL 3 rfl (by omega) (fun _ => ⟨27, 2604, by decide, by decide, qz_lawOf rfl⟩))))
end
