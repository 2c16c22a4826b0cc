/-! the desk's calls: each contract on what is told -/
def aFl (fo : Option Nat) : ARes := aG fo.isNone (aThr 1) (aDon (cI fo) (fun _ => 0))
def aRl (re de : Int32) (b : Bool) : ARes := aG (decide (re = nI 0)) (aThr 1) (aDon (if b = true then re else de) (fun _ => 0))
theorem jn_rock (G : fmG) (hl : (fmLn G).stackTraces = false) (h : fmHp) {x : Nat} {a : DA} {S : DS} (hC : CC G h) (hD : DK G h x a S) (hk8 : S.kp ≤ 8) (v t1 t2 : Int32) : Ct G yX1_rock (ws_ yX1_rock cX1_rock 5 (some .int)) { frames := 9, cells := 28, slots := 3011, locals := 238 } [.ref x, .int v, .int t1, .int t2] h (JPost G h x a (aRock S.N v t1 t2).1 (aAns (aRock S.N v t1 t2)) (cS S (aRock S.N v t1 t2))) (JXp G h x a exC (aRock S.N v t1 t2).1 (cS S (aRock S.N v t1 t2))) := by
  obtain ⟨d, dh, w, pm, X, W, h1, h2, h3, h4, h5, h6, h7, h8, h9⟩ := id hD
  obtain ⟨g, sl, se, pl, pe, gf, sf, pf, K, pk, hM, hR, hse, hpe⟩ := id h5
  obtain ⟨-, eK, eP⟩ := RI_of hR.1 hR.2.1 hR.2.2.1 hR.2.2.2.1
  skip
  exact (ct_X1_rock G hl h hC h1 hM a.e dh S.kp pm h6 hk8 (fun i hi => (h7 i hi).isO) hR v t1 t2).imp (fun v' h' q => c_post h1 h2 h3 h4 h5 h6 h7 h8 h9 hk8 (fun z => ⟨_, _, aRock_RV hR z⟩) q) (fun q E h' z => c_xp h1 h2 h3 h4 h5 h6 h7 h8 h9 z)
theorem jn_roof (G : fmG) (hl : (fmLn G).stackTraces = false) (h : fmHp) {x : Nat} {a : DA} {S : DS} (hC : CC G h) (hD : DK G h x a S) (hk8 : S.kp ≤ 8) (v : Int32) : Ct G yX1_roof (ws_ yX1_roof cX1_roof 2 (some .int)) { frames := 9, cells := 25, slots := 3003, locals := 238 } [.ref x, .int v] h (JPost G h x a (aRoof S.N v).1 (aAns (aRoof S.N v)) (cS S (aRoof S.N v))) (JXp G h x a exC (aRoof S.N v).1 (cS S (aRoof S.N v))) := by
  obtain ⟨d, dh, w, pm, X, W, h1, h2, h3, h4, h5, h6, h7, h8, h9⟩ := id hD
  obtain ⟨g, sl, se, pl, pe, gf, sf, pf, K, pk, hM, hR, hse, hpe⟩ := id h5
  obtain ⟨-, eK, eP⟩ := RI_of hR.1 hR.2.1 hR.2.2.1 hR.2.2.2.1
  skip
  exact (ct_X1_roof G hl h hC h1 hM a.e dh S.kp pm h6 hk8 (fun i hi => (h7 i hi).isO) hR v).imp (fun v' h' q => c_post h1 h2 h3 h4 h5 h6 h7 h8 h9 hk8 (fun z => ⟨_, _, aRoof_RV hR z⟩) q) (fun q E h' z => c_xp h1 h2 h3 h4 h5 h6 h7 h8 h9 z)
theorem jn_props (G : fmG) (hl : (fmLn G).stackTraces = false) (h : fmHp) {x : Nat} {a : DA} {S : DS} (hC : CC G h) (hD : DK G h x a S) (hk8 : S.kp ≤ 8) (v : Int32) : Ct G yX1_props (ws_ yX1_props cX1_props 2 (some .int)) { frames := 9, cells := 25, slots := 3003, locals := 238 } [.ref x, .int v] h (JPost G h x a (aProps S.N v).1 (aAns (aProps S.N v)) (cS S (aProps S.N v))) (JXp G h x a exC (aProps S.N v).1 (cS S (aProps S.N v))) := by
  obtain ⟨d, dh, w, pm, X, W, h1, h2, h3, h4, h5, h6, h7, h8, h9⟩ := id hD
  obtain ⟨g, sl, se, pl, pe, gf, sf, pf, K, pk, hM, hR, hse, hpe⟩ := id h5
  obtain ⟨-, eK, eP⟩ := RI_of hR.1 hR.2.1 hR.2.2.1 hR.2.2.2.1
  skip
  exact (ct_X1_props G hl h hC h1 hM a.e dh S.kp pm h6 hk8 (fun i hi => (h7 i hi).isO) hR v).imp (fun v' h' q => c_post h1 h2 h3 h4 h5 h6 h7 h8 h9 hk8 (fun z => ⟨_, _, aProps_RV hR z⟩) q) (fun q E h' z => c_xp h1 h2 h3 h4 h5 h6 h7 h8 h9 z)
theorem jn_pick (G : fmG) (hl : (fmLn G).stackTraces = false) (h : fmHp) {x : Nat} {a : DA} {S : DS} (hC : CC G h) (hD : DK G h x a S) (hk8 : S.kp ≤ 8) (v : Int32) : Ct G yX1_pick (ws_ yX1_pick cX1_pick 2 (some .int)) { frames := 10, cells := 25, slots := 3195, locals := 258 } [.ref x, .int v] h (JPost G h x a (aPick S.N v (rP S.N)).1 (aAns (aPick S.N v (rP S.N))) (cS S (aPick S.N v (rP S.N)))) (JXp G h x a exC (aPick S.N v (rP S.N)).1 (cS S (aPick S.N v (rP S.N)))) := by
  obtain ⟨d, dh, w, pm, X, W, h1, h2, h3, h4, h5, h6, h7, h8, h9⟩ := id hD
  obtain ⟨g, sl, se, pl, pe, gf, sf, pf, K, pk, hM, hR, hse, hpe⟩ := id h5
  obtain ⟨-, eK, eP⟩ := RI_of hR.1 hR.2.1 hR.2.2.1 hR.2.2.2.1
  rw [eP]
  exact (ct_X1_pick G hl h hC h1 hM a.e dh S.kp pm h6 hk8 (fun i hi => (h7 i hi).isO) hR v).imp (fun v' h' q => c_post h1 h2 h3 h4 h5 h6 h7 h8 h9 hk8 (fun z => ⟨_, _, aPick_RV hR z⟩) q) (fun q E h' z => c_xp h1 h2 h3 h4 h5 h6 h7 h8 h9 z)
theorem jn_sink (G : fmG) (hl : (fmLn G).stackTraces = false) (h : fmHp) {x : Nat} {a : DA} {S : DS} (hC : CC G h) (hD : DK G h x a S) (hk8 : S.kp ≤ 8) (v : Int32) : Ct G yX1_sink (ws_ yX1_sink cX1_sink 2 (some .int)) { frames := 10, cells := 26, slots := 3199, locals := 260 } [.ref x, .int v] h (JPost G h x a (aSink S.N v (rK S.N) (rP S.N)).1 (aAns (aSink S.N v (rK S.N) (rP S.N))) (cS S (aSink S.N v (rK S.N) (rP S.N)))) (JXp G h x a exC (aSink S.N v (rK S.N) (rP S.N)).1 (cS S (aSink S.N v (rK S.N) (rP S.N)))) := by
  obtain ⟨d, dh, w, pm, X, W, h1, h2, h3, h4, h5, h6, h7, h8, h9⟩ := id hD
  obtain ⟨g, sl, se, pl, pe, gf, sf, pf, K, pk, hM, hR, hse, hpe⟩ := id h5
  obtain ⟨-, eK, eP⟩ := RI_of hR.1 hR.2.1 hR.2.2.1 hR.2.2.2.1
  rw [eK, eP]
  exact (ct_X1_sink G hl h hC h1 hM a.e dh S.kp pm h6 hk8 (fun i hi => (h7 i hi).isO) hR v).imp (fun v' h' q => c_post h1 h2 h3 h4 h5 h6 h7 h8 h9 hk8 (fun z => aSink_RV hR z) q) (fun q E h' z => c_xp h1 h2 h3 h4 h5 h6 h7 h8 h9 z)
theorem jn_dig (G : fmG) (hl : (fmLn G).stackTraces = false) (h : fmHp) {x : Nat} {a : DA} {S : DS} (hC : CC G h) (hD : DK G h x a S) (hk8 : S.kp ≤ 8) (s v : Int32) (p : Bool) : Ct G yX1_dig (ws_ yX1_dig cX1_dig 4 (some .int)) { frames := 11, cells := 28, slots := 3212, locals := 238 } [.ref x, .int s, .int v, .int (bI p)] h (JPost G h x a (aDig S.N s v p (rK S.N) (rP S.N)).1 (aAns (aDig S.N s v p (rK S.N) (rP S.N))) (cS S (aDig S.N s v p (rK S.N) (rP S.N)))) (JXp G h x a exC (aDig S.N s v p (rK S.N) (rP S.N)).1 (cS S (aDig S.N s v p (rK S.N) (rP S.N)))) := by
  obtain ⟨d, dh, w, pm, X, W, h1, h2, h3, h4, h5, h6, h7, h8, h9⟩ := id hD
  obtain ⟨g, sl, se, pl, pe, gf, sf, pf, K, pk, hM, hR, hse, hpe⟩ := id h5
  obtain ⟨-, eK, eP⟩ := RI_of hR.1 hR.2.1 hR.2.2.1 hR.2.2.2.1
  rw [eK, eP]
  exact (ct_X1_dig G hl h hC h1 hM a.e dh S.kp pm h6 hk8 (fun i hi => (h7 i hi).isO) hR s v p).imp (fun v' h' q => c_post h1 h2 h3 h4 h5 h6 h7 h8 h9 hk8 (fun z => aDig_RV hR hM.bit.1 z) q) (fun q E h' z => c_xp h1 h2 h3 h4 h5 h6 h7 h8 h9 z)
theorem jn_prop (G : fmG) (hl : (fmLn G).stackTraces = false) (h : fmHp) {x : Nat} {a : DA} {S : DS} (hC : CC G h) (hD : DK G h x a S) (hk8 : S.kp ≤ 8) (v : Int32) : Ct G yX1_prop (ws_ yX1_prop cX1_prop 2 (some .int)) { frames := 10, cells := 24, slots := 3002, locals := 238 } [.ref x, .int v] h (JPost G h x a (aProp S.N v).1 (aAns (aProp S.N v)) (cS S (aProp S.N v))) (JXp G h x a exC (aProp S.N v).1 (cS S (aProp S.N v))) := by
  obtain ⟨d, dh, w, pm, X, W, h1, h2, h3, h4, h5, h6, h7, h8, h9⟩ := id hD
  obtain ⟨g, sl, se, pl, pe, gf, sf, pf, K, pk, hM, hR, hse, hpe⟩ := id h5
  obtain ⟨-, eK, eP⟩ := RI_of hR.1 hR.2.1 hR.2.2.1 hR.2.2.2.1
  skip
  exact (ct_X1_prop G hl h hC h1 hM a.e dh S.kp pm h6 hk8 (fun i hi => (h7 i hi).isO) hR v).imp (fun v' h' q => c_post h1 h2 h3 h4 h5 h6 h7 h8 h9 hk8 (fun z => ⟨_, _, aProp_RV hR z⟩) q) (fun q E h' z => c_xp h1 h2 h3 h4 h5 h6 h7 h8 h9 z)
theorem jn_unprop (G : fmG) (hl : (fmLn G).stackTraces = false) (h : fmHp) {x : Nat} {a : DA} {S : DS} (hC : CC G h) (hD : DK G h x a S) (hk8 : S.kp ≤ 8) (v : Int32) : Ct G yX1_unprop (ws_ yX1_unprop cX1_unprop 2 (some .int)) { frames := 10, cells := 24, slots := 3002, locals := 238 } [.ref x, .int v] h (JPost G h x a (aUnprop S.N v).1 (aAns (aUnprop S.N v)) (cS S (aUnprop S.N v))) (JXp G h x a exC (aUnprop S.N v).1 (cS S (aUnprop S.N v))) := by
  obtain ⟨d, dh, w, pm, X, W, h1, h2, h3, h4, h5, h6, h7, h8, h9⟩ := id hD
  obtain ⟨g, sl, se, pl, pe, gf, sf, pf, K, pk, hM, hR, hse, hpe⟩ := id h5
  obtain ⟨-, eK, eP⟩ := RI_of hR.1 hR.2.1 hR.2.2.1 hR.2.2.2.1
  skip
  exact (ct_X1_unprop G hl h hC h1 hM a.e dh S.kp pm h6 hk8 (fun i hi => (h7 i hi).isO) hR v).imp (fun v' h' q => c_post h1 h2 h3 h4 h5 h6 h7 h8 h9 hk8 (fun z => ⟨_, _, aUnprop_RV hR z⟩) q) (fun q E h' z => c_xp h1 h2 h3 h4 h5 h6 h7 h8 h9 z)
theorem jn_close (G : fmG) (hl : (fmLn G).stackTraces = false) (h : fmHp) {x : Nat} {a : DA} {S : DS} (hC : CC G h) (hD : DK G h x a S) (hk8 : S.kp ≤ 8) (v : Int32) : Ct G yX1_close (ws_ yX1_close cX1_close 2 (some .int)) { frames := 11, cells := 88, slots := 3061, locals := 238 } [.ref x, .int v] h (JPost G h x a (aClose S.N v (rK S.N)).1 (aAns (aClose S.N v (rK S.N))) (cS S (aClose S.N v (rK S.N)))) (JXp G h x a exC (aClose S.N v (rK S.N)).1 (cS S (aClose S.N v (rK S.N)))) := by
  obtain ⟨d, dh, w, pm, X, W, h1, h2, h3, h4, h5, h6, h7, h8, h9⟩ := id hD
  obtain ⟨g, sl, se, pl, pe, gf, sf, pf, K, pk, hM, hR, hse, hpe⟩ := id h5
  obtain ⟨-, eK, eP⟩ := RI_of hR.1 hR.2.1 hR.2.2.1 hR.2.2.2.1
  rw [eK]
  exact (ct_X1_close G hl h hC h1 hM a.e dh S.kp pm h6 hk8 (fun i hi => (h7 i hi).isO) hR v).imp (fun v' h' q => c_post h1 h2 h3 h4 h5 h6 h7 h8 h9 hk8 (fun z => aClose_RV hR hM.bit.2.1 z) q) (fun q E h' z => c_xp h1 h2 h3 h4 h5 h6 h7 h8 h9 z)
theorem jn_edge (G : fmG) (hl : (fmLn G).stackTraces = false) (h : fmHp) {x : Nat} {a : DA} {S : DS} (hC : CC G h) (hD : DK G h x a S) (hk8 : S.kp ≤ 8) (v : Int32) : Ct G yX1_edge (ws_ yX1_edge cX1_edge 2 (some .int)) { frames := 7, cells := 1, slots := 6, locals := 120 } [.ref x, .int v] h (JPost G h x a (aEdge S.N v (rP S.N)).1 (aAns (aEdge S.N v (rP S.N))) S) (JXp G h x a (exQ "java/lang/IndexOutOfBoundsException" "java/lang/IllegalArgumentException") (aEdge S.N v (rP S.N)).1 S) := by
  obtain ⟨d, dh, w, pm, X, W, h1, h2, h3, h4, h5, h6, h7, h8, h9⟩ := id hD
  obtain ⟨g, sl, se, pl, pe, gf, sf, pf, K, pk, hM, hR, hse, hpe⟩ := id h5
  obtain ⟨-, eK, eP⟩ := RI_of hR.1 hR.2.1 hR.2.2.1 hR.2.2.2.1
  rw [eP]
  exact (ct_X1_edge G hl h hC h1 hM v).imp (fun v' h' q => q_post hD q) (fun q E h' z => q_xp hD z)
theorem jn_cell (G : fmG) (hl : (fmLn G).stackTraces = false) (h : fmHp) {x : Nat} {a : DA} {S : DS} (hC : CC G h) (hD : DK G h x a S) (hk8 : S.kp ≤ 8) (v u : Int32) : Ct G yX1_cell (ws_ yX1_cell cX1_cell 6 (some .int)) { frames := 8, cells := 3, slots := 16, locals := 144 } [.ref x, .int v, .int u] h (JPost G h x a (aCell S.N v u).1 (aAns (aCell S.N v u)) S) (JXp G h x a (exQ "java/lang/IndexOutOfBoundsException" "java/lang/IllegalArgumentException") (aCell S.N v u).1 S) := by
  obtain ⟨d, dh, w, pm, X, W, h1, h2, h3, h4, h5, h6, h7, h8, h9⟩ := id hD
  obtain ⟨g, sl, se, pl, pe, gf, sf, pf, K, pk, hM, hR, hse, hpe⟩ := id h5
  obtain ⟨-, eK, eP⟩ := RI_of hR.1 hR.2.1 hR.2.2.1 hR.2.2.2.1
  skip
  exact (ct_X1_cell G hl h hC h1 hM v u).imp (fun v' h' q => q_post hD q) (fun q E h' z => q_xp hD z)
theorem jn_span (G : fmG) (hl : (fmLn G).stackTraces = false) (h : fmHp) {x : Nat} {a : DA} {S : DS} (hC : CC G h) (hD : DK G h x a S) (hk8 : S.kp ≤ 8) (v : Int32) (b : Bool) : Ct G yX1_span (ws_ yX1_span cX1_span 3 (some .int)) { frames := 8, cells := 2, slots := 8, locals := 144 } [.ref x, .int v, .int (bI b)] h (JPost G h x a (aSpan S.N v b).1 (aAns (aSpan S.N v b)) S) (JXp G h x a (exQ "java/lang/IndexOutOfBoundsException" "java/lang/IllegalArgumentException") (aSpan S.N v b).1 S) := by
  obtain ⟨d, dh, w, pm, X, W, h1, h2, h3, h4, h5, h6, h7, h8, h9⟩ := id hD
  obtain ⟨g, sl, se, pl, pe, gf, sf, pf, K, pk, hM, hR, hse, hpe⟩ := id h5
  obtain ⟨-, eK, eP⟩ := RI_of hR.1 hR.2.1 hR.2.2.1 hR.2.2.2.1
  skip
  exact (ct_X1_span G hl h hC h1 hM v b).imp (fun v' h' q => q_post hD q) (fun q E h' z => q_xp hD z)
theorem jn_knock (G : fmG) (hl : (fmLn G).stackTraces = false) (h : fmHp) {x : Nat} {a : DA} {S : DS} (hC : CC G h) (hD : DK G h x a S) (hk8 : S.kp ≤ 8) (v : Int32) : Ct G yX1_knock (ws_ yX1_knock cX1_knock 5 (some .int)) { frames := 8, cells := 2, slots := 8, locals := 144 } [.ref x, .int v] h (JPost G h x a (aKnock S.N v (rK S.N)).1 (aAns (aKnock S.N v (rK S.N))) S) (JXp G h x a (exQ "java/lang/IndexOutOfBoundsException" "java/lang/IllegalStateException") (aKnock S.N v (rK S.N)).1 S) := by
  obtain ⟨d, dh, w, pm, X, W, h1, h2, h3, h4, h5, h6, h7, h8, h9⟩ := id hD
  obtain ⟨g, sl, se, pl, pe, gf, sf, pf, K, pk, hM, hR, hse, hpe⟩ := id h5
  obtain ⟨-, eK, eP⟩ := RI_of hR.1 hR.2.1 hR.2.2.1 hR.2.2.2.1
  rw [eK]
  exact (ct_X1_knock G hl h hC h1 hM v).imp (fun v' h' q => q_post hD q) (fun q E h' z => q_xp hD z)
theorem jn_best (G : fmG) (hl : (fmLn G).stackTraces = false) (h : fmHp) {x : Nat} {a : DA} {S : DS} (hC : CC G h) (hD : DK G h x a S) (hk8 : S.kp ≤ 8) (s : Int32) : Ct G yX1_best (ws_ yX1_best cX1_best 5 (some .int)) { frames := 8, cells := 1, slots := 6, locals := 141 } [.ref x, .int s] h (JPost G h x a (aBest S.N s (rK S.N) (rP S.N)).1 (aAns (aBest S.N s (rK S.N) (rP S.N))) S) (JXp G h x a (exQ "java/lang/IndexOutOfBoundsException" "java/util/NoSuchElementException") (aBest S.N s (rK S.N) (rP S.N)).1 S) := by
  obtain ⟨d, dh, w, pm, X, W, h1, h2, h3, h4, h5, h6, h7, h8, h9⟩ := id hD
  obtain ⟨g, sl, se, pl, pe, gf, sf, pf, K, pk, hM, hR, hse, hpe⟩ := id h5
  obtain ⟨-, eK, eP⟩ := RI_of hR.1 hR.2.1 hR.2.2.1 hR.2.2.2.1
  rw [eK, eP]
  exact (ct_X1_best G hl h hC h1 hM s hR).imp (fun v' h' q => q_post hD q) (fun q E h' z => q_xp hD z)
theorem jn_wayAgain (G : fmG) (hl : (fmLn G).stackTraces = false) (h : fmHp) {x : Nat} {a : DA} {S : DS} (hC : CC G h) (hD : DK G h x a S) (hk8 : S.kp ≤ 8) (s v : Int32) : Ct G yX1_wayAgain (ws_ yX1_wayAgain cX1_wayAgain 10 (some .int)) { frames := 8, cells := 2, slots := 8, locals := 144 } [.ref x, .int s, .int v] h (JPost G h x a (aWay S.N s v (rK S.N)).1 (aAns (aWay S.N s v (rK S.N))) S) (JXp G h x a (exQ "java/lang/IndexOutOfBoundsException" "java/util/NoSuchElementException") (aWay S.N s v (rK S.N)).1 S) := by
  obtain ⟨d, dh, w, pm, X, W, h1, h2, h3, h4, h5, h6, h7, h8, h9⟩ := id hD
  obtain ⟨g, sl, se, pl, pe, gf, sf, pf, K, pk, hM, hR, hse, hpe⟩ := id h5
  obtain ⟨-, eK, eP⟩ := RI_of hR.1 hR.2.1 hR.2.2.1 hR.2.2.2.1
  rw [eK]
  exact (ct_X1_wayAgain G hl h hC h1 hM hR s v).imp (fun v' h' q => q_post hD q) (fun q E h' z => q_xp hD z)
theorem jn_number (G : fmG) (hl : (fmLn G).stackTraces = false) (h : fmHp) {x : Nat} {a : DA} {S : DS} (hC : CC G h) (hD : DK G h x a S) (hk8 : S.kp ≤ 8) (v : Int32) : Ct G yX1_number (ws_ yX1_number cX1_number 2 (some .int)) { frames := 7, cells := 2, slots := 7, locals := 124 } [.ref x, .int v] h (JPost G h x a (aNumber S.N v (rK S.N) (rP S.N) S.kp S.len).1 (aAns (aNumber S.N v (rK S.N) (rP S.N) S.kp S.len)) S) (JXp G h x a (exQ "java/lang/IllegalArgumentException" "java/lang/IllegalArgumentException") (aNumber S.N v (rK S.N) (rP S.N) S.kp S.len).1 S) := by
  obtain ⟨d, dh, w, pm, X, W, h1, h2, h3, h4, h5, h6, h7, h8, h9⟩ := id hD
  obtain ⟨g, sl, se, pl, pe, gf, sf, pf, K, pk, hM, hR, hse, hpe⟩ := id h5
  obtain ⟨-, eK, eP⟩ := RI_of hR.1 hR.2.1 hR.2.2.1 hR.2.2.2.1
  rw [eK, eP]
  exact (ct_X1_number G hl h hC h1 hM v hR a.e dh S.kp pm h6 a.v S.len S.T h8).imp (fun v' h' q => q_post hD q) (fun q E h' z => q_xp hD z)
theorem jn_way (G : fmG) (hl : (fmLn G).stackTraces = false) (h : fmHp) {x : Nat} {a : DA} {S : DS} (hC : CC G h) (hD : DK G h x a S) (hk8 : S.kp ≤ 8) (s v : Int32) : Ct G yX1_way (ws_ yX1_way cX1_way 4 (some .int)) { frames := 72, cells := 68, slots := 220, locals := 2049 } [.ref x, .int s, .int v] h (JPost G h x a (aWay S.N s v (rK S.N)).1 (aAns (aWay S.N s v (rK S.N))) S) (JXp G h x a (exQ "java/lang/IndexOutOfBoundsException" "java/util/NoSuchElementException") (aWay S.N s v (rK S.N)).1 S) := by
  obtain ⟨d, dh, w, pm, X, W, h1, h2, h3, h4, h5, h6, h7, h8, h9⟩ := id hD
  obtain ⟨g, sl, se, pl, pe, gf, sf, pf, K, pk, hM, hR, hse, hpe⟩ := id h5
  obtain ⟨-, eK, eP⟩ := RI_of hR.1 hR.2.1 hR.2.2.1 hR.2.2.2.1
  rw [eK]
  exact (ct_X1_way G hl h hC h1 hM h2 h3 h4 hR s v).imp (fun v' h' q => r_post hD q) (fun q E h' z => r_xp hD z)
theorem jn_step (G : fmG) (hl : (fmLn G).stackTraces = false) (h : fmHp) {x : Nat} {a : DA} {S : DS} (hC : CC G h) (hD : DK G h x a S) (hk8 : S.kp ≤ 8) (s v i : Int32) : Ct G yX1_step (ws_ yX1_step cX1_step 6 (some .int)) { frames := 75, cells := 68, slots := 220, locals := 2100 } [.ref x, .int s, .int v, .int i] h (JPost G h x a (aStep S.N s v i (rK S.N)).1 (aAns (aStep S.N s v i (rK S.N))) S) (JXp G h x a (exQ "java/lang/IndexOutOfBoundsException" "java/util/NoSuchElementException") (aStep S.N s v i (rK S.N)).1 S) := by
  obtain ⟨d, dh, w, pm, X, W, h1, h2, h3, h4, h5, h6, h7, h8, h9⟩ := id hD
  obtain ⟨g, sl, se, pl, pe, gf, sf, pf, K, pk, hM, hR, hse, hpe⟩ := id h5
  obtain ⟨-, eK, eP⟩ := RI_of hR.1 hR.2.1 hR.2.2.1 hR.2.2.2.1
  rw [eK]
  exact (ct_X1_step G hl h hC h1 hM h2 h3 h4 hR s v i).imp (fun v' h' q => r_post hD q) (fun q E h' z => r_xp hD z)
theorem jn_strokes (G : fmG) (hl : (fmLn G).stackTraces = false) (h : fmHp) {x : Nat} {a : DA} {S : DS} (hC : CC G h) (hD : DK G h x a S) (hk8 : S.kp ≤ 8) (s v : Int32) : Ct G yX1_strokes (ws_ yX1_strokes cX1_strokes 4 (some .int)) { frames := 75, cells := 68, slots := 220, locals := 2100 } [.ref x, .int s, .int v] h (JPost G h x a (aStrokes S.N s v (rK S.N)).1 (aAns (aStrokes S.N s v (rK S.N))) S) (JXp G h x a (exQ "java/lang/IndexOutOfBoundsException" "java/util/NoSuchElementException") (aStrokes S.N s v (rK S.N)).1 S) := by
  obtain ⟨d, dh, w, pm, X, W, h1, h2, h3, h4, h5, h6, h7, h8, h9⟩ := id hD
  obtain ⟨g, sl, se, pl, pe, gf, sf, pf, K, pk, hM, hR, hse, hpe⟩ := id h5
  obtain ⟨-, eK, eP⟩ := RI_of hR.1 hR.2.1 hR.2.2.1 hR.2.2.2.1
  rw [eK]
  exact (ct_X1_strokes G hl h hC h1 hM h2 h3 h4 hR s v).imp (fun v' h' q => r_post hD q) (fun q E h' z => r_xp hD z)
theorem jn_shaft (G : fmG) (hl : (fmLn G).stackTraces = false) (h : fmHp) {x : Nat} {a : DA} {S : DS} (hC : CC G h) (hD : DK G h x a S) (hk8 : S.kp ≤ 8) (s u : Int32) : Ct G yX1_shaft (ws_ yX1_shaft cX1_shaft 4 (some .int)) { frames := 72, cells := 4098, slots := 12300, locals := 2048 } [.ref x, .int s, .int u] h (JPost G h x a (aShaft S.N s u (rK S.N)).1 (aAns (aShaft S.N s u (rK S.N))) S) (JXp G h x a (exQ "java/lang/IndexOutOfBoundsException" "java/lang/IllegalArgumentException") (aShaft S.N s u (rK S.N)).1 S) := by
  obtain ⟨d, dh, w, pm, X, W, h1, h2, h3, h4, h5, h6, h7, h8, h9⟩ := id hD
  obtain ⟨g, sl, se, pl, pe, gf, sf, pf, K, pk, hM, hR, hse, hpe⟩ := id h5
  obtain ⟨-, eK, eP⟩ := RI_of hR.1 hR.2.1 hR.2.2.1 hR.2.2.2.1
  rw [eK]
  exact (ct_X1_shaft G hl h hC h1 hM h2 h3 h4 hR s u).imp (fun v' h' q => r_post hD q) (fun q E h' z => r_xp hD z)
theorem jn_longest (G : fmG) (hl : (fmLn G).stackTraces = false) (h : fmHp) {x : Nat} {a : DA} {S : DS} (hC : CC G h) (hD : DK G h x a S) (hk8 : S.kp ≤ 8)  : Ct G yX1_longest (ws_ yX1_longest cX1_longest 1 (some .int)) { frames := 5, cells := 0, slots := 0, locals := 111 } [.ref x] h (JPost G h x a 0 (nI (sLong S.N)) S) (fmNo) := by
  obtain ⟨d, dh, w, pm, X, W, h1, h2, h3, h4, h5, h6, h7, h8, h9⟩ := id hD
  obtain ⟨g, sl, se, pl, pe, gf, sf, pf, K, pk, hM, hR, hse, hpe⟩ := id h5
  obtain ⟨-, eK, eP⟩ := RI_of hR.1 hR.2.1 hR.2.2.1 hR.2.2.2.1
  exact (ct_X1_longest G hl h hC h1 hM).imp (fun v' h' q => ⟨rfl, q.1, JP.kp hD (by rw [q.2]; exact Kp.refl)⟩) (fun _ _ _ z => z)
theorem jn_perStroke (G : fmG) (hl : (fmLn G).stackTraces = false) (h : fmHp) {x : Nat} {a : DA} {S : DS} (hC : CC G h) (hD : DK G h x a S) (hk8 : S.kp ≤ 8)  : Ct G yX1_perStroke (ws_ yX1_perStroke cX1_perStroke 1 (some .double)) { frames := 6, cells := 1, slots := 6, locals := 100 } [.ref x] h (fun v h' => ¬ S.N 354 = 0 ∧ v = some (.double (FP.ddiv (FP.i2d (sWon S.N (rK S.N))) (FP.i2d (S.N 354)))) ∧ JP G h x a S h') (fun _ Ex h' => S.N 354 = 0 ∧ Ex = "java/lang/ArithmeticException" ∧ JP G h x a S h') := by
  obtain ⟨d, dh, w, pm, X, W, h1, h2, h3, h4, h5, h6, h7, h8, h9⟩ := id hD
  obtain ⟨g, sl, se, pl, pe, gf, sf, pf, K, pk, hM, hR, hse, hpe⟩ := id h5
  obtain ⟨-, eK, eP⟩ := RI_of hR.1 hR.2.1 hR.2.2.1 hR.2.2.2.1
  rw [eK]
  exact (ct_X1_perStroke G hl h hC h1 hM).imp (fun v' h' q => ⟨q.1, q.2.1, JP.kp hD q.2.2⟩) (fun _ _ _ z => ⟨z.1, z.2.1, JP.kp hD z.2.2⟩)
theorem jn_chalk (G : fmG) (hl : (fmLn G).stackTraces = false) (h : fmHp) {x : Nat} {a : DA} {S : DS} (hC : CC G h) (hD : DK G h x a S) (hk8 : S.kp ≤ 8)  : Ct G yX1_chalk (ws_ yX1_chalk cX1_chalk 1 (some .float)) { frames := 2, cells := 0, slots := 0, locals := 43 } [.ref x] h (fmRet (some (.float (FP.fdiv (FP.i2f (nI (sSt S.N (nI 0)))) 1115684864))) h) (fmNo) := by
  obtain ⟨d, dh, w, pm, X, W, h1, h2, h3, h4, h5, h6, h7, h8, h9⟩ := id hD
  obtain ⟨g, sl, se, pl, pe, gf, sf, pf, K, pk, hM, hR, hse, hpe⟩ := id h5
  obtain ⟨-, eK, eP⟩ := RI_of hR.1 hR.2.1 hR.2.2.1 hR.2.2.2.1
  exact ct_X1_chalk G hl h hC h1 hM
theorem jn_faultPosition (G : fmG) (hl : (fmLn G).stackTraces = false) (h : fmHp) {x : Nat} {a : DA} {S : DS} (hC : CC G h) (hD : DK G h x a S) (hk8 : S.kp ≤ 8) (fo : Option Nat) (hfo : S.fl = cI fo) (h31 : ∀ y, fo = some y → y < 2 ^ 31) : Ct G yX1_faultPosition (ws_ yX1_faultPosition cX1_faultPosition 1 (some .int)) { frames := 7, cells := 1, slots := 6, locals := 120 } [.ref x] h (JPost G h x a (aFl fo).1 (aAns (aFl fo)) S) (JXp G h x a (exQ "java/util/NoSuchElementException" "java/util/NoSuchElementException") (aFl fo).1 S) := by
  obtain ⟨d, dh, w, pm, X, W, h1, h2, h3, h4, h5, h6, h7, h8, h9⟩ := id hD
  obtain ⟨g, sl, se, pl, pe, gf, sf, pf, K, pk, hM, hR, hse, hpe⟩ := id h5
  obtain ⟨-, eK, eP⟩ := RI_of hR.1 hR.2.1 hR.2.2.1 hR.2.2.2.1
  refine (ct_X1_faultPosition G hl h hC h1 fo hfo h31).imp (fun v' h' q => ?_) (fun q E h' z => ?_)
  · obtain ⟨q1, q2, q3⟩ := q
    cases fo with
    | none => exact absurd rfl q1
    | some y => exact ⟨rfl, q2, JP.kp hD q3⟩
  · obtain ⟨rfl, rfl, z3⟩ := z
    exact ⟨(by decide : (1 : Nat) ≠ 0), rfl, JP.kp hD z3⟩
theorem jn_refusal (G : fmG) (hl : (fmLn G).stackTraces = false) (h : fmHp) {x : Nat} {a : DA} {S : DS} (hC : CC G h) (hD : DK G h x a S) (hk8 : S.kp ≤ 8) (b : Bool) : Ct G yX1_refusal (ws_ yX1_refusal cX1_refusal 2 (some .int)) { frames := 7, cells := 1, slots := 6, locals := 120 } [.ref x, .int (bI b)] h (JPost G h x a (aRl S.re S.de b).1 (aAns (aRl S.re S.de b)) S) (JXp G h x a (exQ "java/util/NoSuchElementException" "java/util/NoSuchElementException") (aRl S.re S.de b).1 S) := by
  obtain ⟨d, dh, w, pm, X, W, h1, h2, h3, h4, h5, h6, h7, h8, h9⟩ := id hD
  obtain ⟨g, sl, se, pl, pe, gf, sf, pf, K, pk, hM, hR, hse, hpe⟩ := id h5
  obtain ⟨-, eK, eP⟩ := RI_of hR.1 hR.2.1 hR.2.2.1 hR.2.2.2.1
  refine (ct_X1_refusal G hl h hC h1 b).imp (fun v' h' q => ?_) (fun q E h' z => ?_)
  · obtain ⟨q1, q2, q3⟩ := q
    have e : aRl S.re S.de b = aDon (if b = true then S.re else S.de) (fun _ => 0) := by unfold aRl; rw [decide_eq_false (fun z => q1 (z.trans nI_0))]; rfl
    rw [e]
    exact ⟨rfl, q2, JP.kp hD q3⟩
  · obtain ⟨z1, z2, z3⟩ := z
    have e : aRl S.re S.de b = aThr 1 := by unfold aRl; rw [decide_eq_true (z1.trans nI_0.symm)]; rfl
    rw [e]
    exact ⟨(by decide : (1 : Nat) ≠ 0), z2, JP.kp hD z3⟩
