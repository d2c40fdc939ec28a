set_option maxRecDepth 100000
theorem dL_law_399 : decode cL_law 399 = .ok (.iconst 1, 1) := by decide +kernel
theorem dL_law_400 : decode cL_law 400 = .ok (.iadd, 1) := by decide +kernel
theorem dL_law_401 : decode cL_law 401 = .ok (.iaload, 1) := by decide +kernel
theorem dL_law_402 : decode cL_law 402 = .ok (.aload_n 0, 1) := by decide +kernel
theorem dL_law_403 : decode cL_law 403 = .ok (.iload_n 3, 1) := by decide +kernel
theorem dL_law_404 : decode cL_law 404 = .ok (.iconst 2, 1) := by decide +kernel
theorem dL_law_405 : decode cL_law 405 = .ok (.iadd, 1) := by decide +kernel
theorem dL_law_406 : decode cL_law 406 = .ok (.iaload, 1) := by decide +kernel
theorem dL_law_407 : decode cL_law 407 = .ok (.invokevirtual 47, 3) := by decide +kernel
theorem dL_law_410 : decode cL_law 410 = .ok (.if_icmp .eq 282, 3) := by decide +kernel
theorem dL_law_413 : decode cL_law 413 = .ok (.iconst 0, 1) := by decide +kernel
theorem dL_law_414 : decode cL_law 414 = .ok (.ireturn, 1) := by decide +kernel
theorem dL_law_415 : decode cL_law 415 = .ok (.aload_n 1, 1) := by decide +kernel
theorem dL_law_416 : decode cL_law 416 = .ok (.aload_n 0, 1) := by decide +kernel
theorem dL_law_417 : decode cL_law 417 = .ok (.iload_n 3, 1) := by decide +kernel
theorem dL_law_418 : decode cL_law 418 = .ok (.iconst 1, 1) := by decide +kernel
theorem dL_law_419 : decode cL_law 419 = .ok (.iadd, 1) := by decide +kernel
theorem dL_law_420 : decode cL_law 420 = .ok (.iaload, 1) := by decide +kernel
theorem dL_law_421 : decode cL_law 421 = .ok (.aload_n 0, 1) := by decide +kernel
theorem dL_law_422 : decode cL_law 422 = .ok (.iload_n 3, 1) := by decide +kernel
theorem dL_law_423 : decode cL_law 423 = .ok (.iconst 2, 1) := by decide +kernel
theorem dL_law_424 : decode cL_law 424 = .ok (.iadd, 1) := by decide +kernel
theorem dL_law_425 : decode cL_law 425 = .ok (.iaload, 1) := by decide +kernel
theorem dL_law_426 : decode cL_law 426 = .ok (.aload_n 0, 1) := by decide +kernel
theorem dL_law_427 : decode cL_law 427 = .ok (.iload_n 3, 1) := by decide +kernel
theorem dL_law_428 : decode cL_law 428 = .ok (.iconst 3, 1) := by decide +kernel
theorem dL_law_429 : decode cL_law 429 = .ok (.iadd, 1) := by decide +kernel
theorem dL_law_430 : decode cL_law 430 = .ok (.iaload, 1) := by decide +kernel
theorem dL_law_431 : decode cL_law 431 = .ok (.invokevirtual 48, 3) := by decide +kernel
theorem dL_law_434 : decode cL_law 434 = .ok (.aload_n 2, 1) := by decide +kernel
theorem dL_law_435 : decode cL_law 435 = .ok (.aload_n 0, 1) := by decide +kernel
theorem dL_law_436 : decode cL_law 436 = .ok (.iload_n 3, 1) := by decide +kernel
theorem dL_law_437 : decode cL_law 437 = .ok (.iconst 1, 1) := by decide +kernel
theorem dL_law_438 : decode cL_law 438 = .ok (.iadd, 1) := by decide +kernel
theorem dL_law_439 : decode cL_law 439 = .ok (.iaload, 1) := by decide +kernel
theorem dL_law_440 : decode cL_law 440 = .ok (.aload_n 0, 1) := by decide +kernel
theorem dL_law_441 : decode cL_law 441 = .ok (.iload_n 3, 1) := by decide +kernel
theorem dL_law_442 : decode cL_law 442 = .ok (.iconst 2, 1) := by decide +kernel
theorem dL_law_443 : decode cL_law 443 = .ok (.iadd, 1) := by decide +kernel
theorem dL_law_444 : decode cL_law 444 = .ok (.iaload, 1) := by decide +kernel
theorem dL_law_445 : decode cL_law 445 = .ok (.aload_n 0, 1) := by decide +kernel
theorem dL_law_446 : decode cL_law 446 = .ok (.iload_n 3, 1) := by decide +kernel
theorem dL_law_447 : decode cL_law 447 = .ok (.iconst 3, 1) := by decide +kernel
theorem dL_law_448 : decode cL_law 448 = .ok (.iadd, 1) := by decide +kernel
theorem dL_law_449 : decode cL_law 449 = .ok (.iaload, 1) := by decide +kernel
theorem dL_law_450 : decode cL_law 450 = .ok (.invokevirtual 51, 3) := by decide +kernel
theorem dL_law_453 : decode cL_law 453 = .ok (.if_icmp .eq 239, 3) := by decide +kernel
theorem dL_law_456 : decode cL_law 456 = .ok (.iconst 0, 1) := by decide +kernel
theorem dL_law_457 : decode cL_law 457 = .ok (.ireturn, 1) := by decide +kernel
theorem dL_law_458 : decode cL_law 458 = .ok (.aload_n 1, 1) := by decide +kernel
theorem dL_law_459 : decode cL_law 459 = .ok (.aload_n 0, 1) := by decide +kernel
theorem dL_law_460 : decode cL_law 460 = .ok (.iload_n 3, 1) := by decide +kernel
theorem dL_law_461 : decode cL_law 461 = .ok (.iconst 1, 1) := by decide +kernel
theorem dL_law_462 : decode cL_law 462 = .ok (.iadd, 1) := by decide +kernel
theorem dL_law_463 : decode cL_law 463 = .ok (.iaload, 1) := by decide +kernel
theorem dL_law_464 : decode cL_law 464 = .ok (.aload_n 0, 1) := by decide +kernel
theorem dL_law_465 : decode cL_law 465 = .ok (.iload_n 3, 1) := by decide +kernel
theorem dL_law_466 : decode cL_law 466 = .ok (.iconst 2, 1) := by decide +kernel
theorem dL_law_467 : decode cL_law 467 = .ok (.iadd, 1) := by decide +kernel
theorem dL_law_468 : decode cL_law 468 = .ok (.iaload, 1) := by decide +kernel
theorem dL_law_469 : decode cL_law 469 = .ok (.invokevirtual 52, 3) := by decide +kernel
theorem dL_law_472 : decode cL_law 472 = .ok (.aload_n 2, 1) := by decide +kernel
theorem dL_law_473 : decode cL_law 473 = .ok (.aload_n 0, 1) := by decide +kernel
theorem dL_law_474 : decode cL_law 474 = .ok (.iload_n 3, 1) := by decide +kernel
theorem dL_law_475 : decode cL_law 475 = .ok (.iconst 1, 1) := by decide +kernel
theorem dL_law_476 : decode cL_law 476 = .ok (.iadd, 1) := by decide +kernel
theorem dL_law_477 : decode cL_law 477 = .ok (.iaload, 1) := by decide +kernel
theorem dL_law_478 : decode cL_law 478 = .ok (.aload_n 0, 1) := by decide +kernel
theorem dL_law_479 : decode cL_law 479 = .ok (.iload_n 3, 1) := by decide +kernel
theorem dL_law_480 : decode cL_law 480 = .ok (.iconst 2, 1) := by decide +kernel
theorem dL_law_481 : decode cL_law 481 = .ok (.iadd, 1) := by decide +kernel
theorem dL_law_482 : decode cL_law 482 = .ok (.iaload, 1) := by decide +kernel
theorem dL_law_483 : decode cL_law 483 = .ok (.invokevirtual 55, 3) := by decide +kernel
theorem dL_law_486 : decode cL_law 486 = .ok (.if_icmp .eq 206, 3) := by decide +kernel
theorem dL_law_489 : decode cL_law 489 = .ok (.iconst 0, 1) := by decide +kernel
theorem dL_law_490 : decode cL_law 490 = .ok (.ireturn, 1) := by decide +kernel
theorem dL_law_491 : decode cL_law 491 = .ok (.aload_n 1, 1) := by decide +kernel
theorem dL_law_492 : decode cL_law 492 = .ok (.aload_n 0, 1) := by decide +kernel
theorem dL_law_493 : decode cL_law 493 = .ok (.iload_n 3, 1) := by decide +kernel
theorem dL_law_494 : decode cL_law 494 = .ok (.iconst 1, 1) := by decide +kernel
theorem dL_law_495 : decode cL_law 495 = .ok (.iadd, 1) := by decide +kernel
theorem dL_law_496 : decode cL_law 496 = .ok (.iaload, 1) := by decide +kernel
theorem dL_law_497 : decode cL_law 497 = .ok (.invokevirtual 56, 3) := by decide +kernel
theorem dL_law_500 : decode cL_law 500 = .ok (.aload_n 2, 1) := by decide +kernel
theorem dL_law_501 : decode cL_law 501 = .ok (.aload_n 0, 1) := by decide +kernel
theorem dL_law_502 : decode cL_law 502 = .ok (.iload_n 3, 1) := by decide +kernel
theorem dL_law_503 : decode cL_law 503 = .ok (.iconst 1, 1) := by decide +kernel
theorem dL_law_504 : decode cL_law 504 = .ok (.iadd, 1) := by decide +kernel
theorem dL_law_505 : decode cL_law 505 = .ok (.iaload, 1) := by decide +kernel
theorem dL_law_506 : decode cL_law 506 = .ok (.invokevirtual 59, 3) := by decide +kernel
theorem dL_law_509 : decode cL_law 509 = .ok (.if_icmp .eq 183, 3) := by decide +kernel
theorem dL_law_512 : decode cL_law 512 = .ok (.iconst 0, 1) := by decide +kernel
theorem dL_law_513 : decode cL_law 513 = .ok (.ireturn, 1) := by decide +kernel
theorem dL_law_514 : decode cL_law 514 = .ok (.aload_n 1, 1) := by decide +kernel
theorem dL_law_515 : decode cL_law 515 = .ok (.aload_n 0, 1) := by decide +kernel
theorem dL_law_516 : decode cL_law 516 = .ok (.iload_n 3, 1) := by decide +kernel
theorem dL_law_517 : decode cL_law 517 = .ok (.iconst 1, 1) := by decide +kernel
theorem dL_law_518 : decode cL_law 518 = .ok (.iadd, 1) := by decide +kernel
theorem dL_law_519 : decode cL_law 519 = .ok (.iaload, 1) := by decide +kernel
theorem dL_law_520 : decode cL_law 520 = .ok (.aload_n 0, 1) := by decide +kernel
theorem dL_law_521 : decode cL_law 521 = .ok (.iload_n 3, 1) := by decide +kernel
theorem dL_law_522 : decode cL_law 522 = .ok (.iconst 2, 1) := by decide +kernel
theorem dL_law_523 : decode cL_law 523 = .ok (.iadd, 1) := by decide +kernel
theorem dL_law_524 : decode cL_law 524 = .ok (.iaload, 1) := by decide +kernel
theorem dL_law_525 : decode cL_law 525 = .ok (.invokevirtual 60, 3) := by decide +kernel
theorem dL_law_528 : decode cL_law 528 = .ok (.aload_n 2, 1) := by decide +kernel
theorem dL_law_529 : decode cL_law 529 = .ok (.aload_n 0, 1) := by decide +kernel
theorem dL_law_530 : decode cL_law 530 = .ok (.iload_n 3, 1) := by decide +kernel
theorem dL_law_531 : decode cL_law 531 = .ok (.iconst 1, 1) := by decide +kernel
theorem dL_law_532 : decode cL_law 532 = .ok (.iadd, 1) := by decide +kernel
theorem dL_law_533 : decode cL_law 533 = .ok (.iaload, 1) := by decide +kernel
theorem dL_law_534 : decode cL_law 534 = .ok (.aload_n 0, 1) := by decide +kernel
theorem dL_law_535 : decode cL_law 535 = .ok (.iload_n 3, 1) := by decide +kernel
theorem dL_law_536 : decode cL_law 536 = .ok (.iconst 2, 1) := by decide +kernel
theorem dL_law_537 : decode cL_law 537 = .ok (.iadd, 1) := by decide +kernel
theorem dL_law_538 : decode cL_law 538 = .ok (.iaload, 1) := by decide +kernel
theorem dL_law_539 : decode cL_law 539 = .ok (.invokevirtual 63, 3) := by decide +kernel
theorem dL_law_542 : decode cL_law 542 = .ok (.if_icmp .eq 150, 3) := by decide +kernel
theorem dL_law_545 : decode cL_law 545 = .ok (.iconst 0, 1) := by decide +kernel
theorem dL_law_546 : decode cL_law 546 = .ok (.ireturn, 1) := by decide +kernel
theorem dL_law_547 : decode cL_law 547 = .ok (.aload_n 1, 1) := by decide +kernel
theorem dL_law_548 : decode cL_law 548 = .ok (.aload_n 0, 1) := by decide +kernel
theorem dL_law_549 : decode cL_law 549 = .ok (.iload_n 3, 1) := by decide +kernel
theorem dL_law_550 : decode cL_law 550 = .ok (.iconst 1, 1) := by decide +kernel
theorem dL_law_551 : decode cL_law 551 = .ok (.iadd, 1) := by decide +kernel
theorem dL_law_552 : decode cL_law 552 = .ok (.iaload, 1) := by decide +kernel
theorem dL_law_553 : decode cL_law 553 = .ok (.invokevirtual 64, 3) := by decide +kernel
theorem dL_law_556 : decode cL_law 556 = .ok (.aload_n 2, 1) := by decide +kernel
theorem dL_law_557 : decode cL_law 557 = .ok (.aload_n 0, 1) := by decide +kernel
theorem dL_law_558 : decode cL_law 558 = .ok (.iload_n 3, 1) := by decide +kernel
theorem dL_law_559 : decode cL_law 559 = .ok (.iconst 1, 1) := by decide +kernel
theorem dL_law_560 : decode cL_law 560 = .ok (.iadd, 1) := by decide +kernel
theorem dL_law_561 : decode cL_law 561 = .ok (.iaload, 1) := by decide +kernel
theorem dL_law_562 : decode cL_law 562 = .ok (.invokevirtual 67, 3) := by decide +kernel
theorem dL_law_565 : decode cL_law 565 = .ok (.if_icmp .eq 127, 3) := by decide +kernel
theorem dL_law_568 : decode cL_law 568 = .ok (.iconst 0, 1) := by decide +kernel
theorem dL_law_569 : decode cL_law 569 = .ok (.ireturn, 1) := by decide +kernel
theorem dL_law_570 : decode cL_law 570 = .ok (.aload_n 1, 1) := by decide +kernel
theorem dL_law_571 : decode cL_law 571 = .ok (.aload_n 0, 1) := by decide +kernel
theorem dL_law_572 : decode cL_law 572 = .ok (.iload_n 3, 1) := by decide +kernel
theorem dL_law_573 : decode cL_law 573 = .ok (.iconst 1, 1) := by decide +kernel
theorem dL_law_574 : decode cL_law 574 = .ok (.iadd, 1) := by decide +kernel
theorem dL_law_575 : decode cL_law 575 = .ok (.iaload, 1) := by decide +kernel
theorem dL_law_576 : decode cL_law 576 = .ok (.aload_n 0, 1) := by decide +kernel
theorem dL_law_577 : decode cL_law 577 = .ok (.iload_n 3, 1) := by decide +kernel
theorem dL_law_578 : decode cL_law 578 = .ok (.iconst 2, 1) := by decide +kernel
theorem dL_law_579 : decode cL_law 579 = .ok (.iadd, 1) := by decide +kernel
theorem dL_law_580 : decode cL_law 580 = .ok (.iaload, 1) := by decide +kernel
theorem dL_law_581 : decode cL_law 581 = .ok (.invokevirtual 68, 3) := by decide +kernel
theorem dL_law_584 : decode cL_law 584 = .ok (.aload_n 2, 1) := by decide +kernel
theorem dL_law_585 : decode cL_law 585 = .ok (.aload_n 0, 1) := by decide +kernel
theorem dL_law_586 : decode cL_law 586 = .ok (.iload_n 3, 1) := by decide +kernel
theorem dL_law_587 : decode cL_law 587 = .ok (.iconst 1, 1) := by decide +kernel
theorem dL_law_588 : decode cL_law 588 = .ok (.iadd, 1) := by decide +kernel
theorem dL_law_589 : decode cL_law 589 = .ok (.iaload, 1) := by decide +kernel
theorem dL_law_590 : decode cL_law 590 = .ok (.aload_n 0, 1) := by decide +kernel
theorem dL_law_591 : decode cL_law 591 = .ok (.iload_n 3, 1) := by decide +kernel
theorem dL_law_592 : decode cL_law 592 = .ok (.iconst 2, 1) := by decide +kernel
theorem dL_law_593 : decode cL_law 593 = .ok (.iadd, 1) := by decide +kernel
theorem dL_law_594 : decode cL_law 594 = .ok (.iaload, 1) := by decide +kernel
theorem dL_law_595 : decode cL_law 595 = .ok (.invokevirtual 71, 3) := by decide +kernel
theorem dL_law_598 : decode cL_law 598 = .ok (.if_icmp .eq 94, 3) := by decide +kernel
theorem dL_law_601 : decode cL_law 601 = .ok (.iconst 0, 1) := by decide +kernel
theorem dL_law_602 : decode cL_law 602 = .ok (.ireturn, 1) := by decide +kernel
theorem dL_law_603 : decode cL_law 603 = .ok (.aload_n 1, 1) := by decide +kernel
theorem dL_law_604 : decode cL_law 604 = .ok (.aload_n 0, 1) := by decide +kernel
theorem dL_law_605 : decode cL_law 605 = .ok (.iload_n 3, 1) := by decide +kernel
theorem dL_law_606 : decode cL_law 606 = .ok (.iconst 1, 1) := by decide +kernel
theorem dL_law_607 : decode cL_law 607 = .ok (.iadd, 1) := by decide +kernel
theorem dL_law_608 : decode cL_law 608 = .ok (.iaload, 1) := by decide +kernel
theorem dL_law_609 : decode cL_law 609 = .ok (.aload_n 0, 1) := by decide +kernel
theorem dL_law_610 : decode cL_law 610 = .ok (.iload_n 3, 1) := by decide +kernel
theorem dL_law_611 : decode cL_law 611 = .ok (.iconst 2, 1) := by decide +kernel
theorem dL_law_612 : decode cL_law 612 = .ok (.iadd, 1) := by decide +kernel
theorem dL_law_613 : decode cL_law 613 = .ok (.iaload, 1) := by decide +kernel
theorem dL_law_614 : decode cL_law 614 = .ok (.invokevirtual 72, 3) := by decide +kernel
theorem dL_law_617 : decode cL_law 617 = .ok (.aload_n 2, 1) := by decide +kernel
theorem dL_law_618 : decode cL_law 618 = .ok (.aload_n 0, 1) := by decide +kernel
theorem dL_law_619 : decode cL_law 619 = .ok (.iload_n 3, 1) := by decide +kernel
theorem dL_law_620 : decode cL_law 620 = .ok (.iconst 1, 1) := by decide +kernel
theorem dL_law_621 : decode cL_law 621 = .ok (.iadd, 1) := by decide +kernel
theorem dL_law_622 : decode cL_law 622 = .ok (.iaload, 1) := by decide +kernel
theorem dL_law_623 : decode cL_law 623 = .ok (.aload_n 0, 1) := by decide +kernel
theorem dL_law_624 : decode cL_law 624 = .ok (.iload_n 3, 1) := by decide +kernel
theorem dL_law_625 : decode cL_law 625 = .ok (.iconst 2, 1) := by decide +kernel
theorem dL_law_626 : decode cL_law 626 = .ok (.iadd, 1) := by decide +kernel
theorem dL_law_627 : decode cL_law 627 = .ok (.iaload, 1) := by decide +kernel
theorem dL_law_628 : decode cL_law 628 = .ok (.invokevirtual 75, 3) := by decide +kernel
theorem dL_law_631 : decode cL_law 631 = .ok (.if_icmp .eq 61, 3) := by decide +kernel
theorem dL_law_634 : decode cL_law 634 = .ok (.iconst 0, 1) := by decide +kernel
theorem dL_law_635 : decode cL_law 635 = .ok (.ireturn, 1) := by decide +kernel
theorem dL_law_636 : decode cL_law 636 = .ok (.aload_n 1, 1) := by decide +kernel
theorem dL_law_637 : decode cL_law 637 = .ok (.aload_n 0, 1) := by decide +kernel
theorem dL_law_638 : decode cL_law 638 = .ok (.iload_n 3, 1) := by decide +kernel
theorem dL_law_639 : decode cL_law 639 = .ok (.iconst 1, 1) := by decide +kernel
theorem dL_law_640 : decode cL_law 640 = .ok (.iadd, 1) := by decide +kernel
theorem dL_law_641 : decode cL_law 641 = .ok (.iaload, 1) := by decide +kernel
theorem dL_law_642 : decode cL_law 642 = .ok (.aload_n 0, 1) := by decide +kernel
theorem dL_law_643 : decode cL_law 643 = .ok (.iload_n 3, 1) := by decide +kernel
theorem dL_law_644 : decode cL_law 644 = .ok (.iconst 2, 1) := by decide +kernel
theorem dL_law_645 : decode cL_law 645 = .ok (.iadd, 1) := by decide +kernel
theorem dL_law_646 : decode cL_law 646 = .ok (.iaload, 1) := by decide +kernel
theorem dL_law_647 : decode cL_law 647 = .ok (.invokevirtual 76, 3) := by decide +kernel
theorem dL_law_650 : decode cL_law 650 = .ok (.aload_n 2, 1) := by decide +kernel
theorem dL_law_651 : decode cL_law 651 = .ok (.aload_n 0, 1) := by decide +kernel
theorem dL_law_652 : decode cL_law 652 = .ok (.iload_n 3, 1) := by decide +kernel
theorem dL_law_653 : decode cL_law 653 = .ok (.iconst 1, 1) := by decide +kernel
theorem dL_law_654 : decode cL_law 654 = .ok (.iadd, 1) := by decide +kernel
theorem dL_law_655 : decode cL_law 655 = .ok (.iaload, 1) := by decide +kernel
theorem dL_law_656 : decode cL_law 656 = .ok (.aload_n 0, 1) := by decide +kernel
theorem dL_law_657 : decode cL_law 657 = .ok (.iload_n 3, 1) := by decide +kernel
theorem dL_law_658 : decode cL_law 658 = .ok (.iconst 2, 1) := by decide +kernel
theorem dL_law_659 : decode cL_law 659 = .ok (.iadd, 1) := by decide +kernel
theorem dL_law_660 : decode cL_law 660 = .ok (.iaload, 1) := by decide +kernel
theorem dL_law_661 : decode cL_law 661 = .ok (.invokevirtual 79, 3) := by decide +kernel
theorem dL_law_664 : decode cL_law 664 = .ok (.if_icmp .eq 28, 3) := by decide +kernel
theorem dL_law_667 : decode cL_law 667 = .ok (.iconst 0, 1) := by decide +kernel
theorem dL_law_668 : decode cL_law 668 = .ok (.ireturn, 1) := by decide +kernel
theorem dL_law_669 : decode cL_law 669 = .ok (.aload_n 1, 1) := by decide +kernel
theorem dL_law_670 : decode cL_law 670 = .ok (.aload_n 0, 1) := by decide +kernel
theorem dL_law_671 : decode cL_law 671 = .ok (.iload_n 3, 1) := by decide +kernel
theorem dL_law_672 : decode cL_law 672 = .ok (.iconst 1, 1) := by decide +kernel
theorem dL_law_673 : decode cL_law 673 = .ok (.iadd, 1) := by decide +kernel
theorem dL_law_674 : decode cL_law 674 = .ok (.iaload, 1) := by decide +kernel
theorem dL_law_675 : decode cL_law 675 = .ok (.invokevirtual 80, 3) := by decide +kernel
theorem dL_law_678 : decode cL_law 678 = .ok (.aload_n 2, 1) := by decide +kernel
theorem dL_law_679 : decode cL_law 679 = .ok (.aload_n 0, 1) := by decide +kernel
theorem dL_law_680 : decode cL_law 680 = .ok (.iload_n 3, 1) := by decide +kernel
theorem dL_law_681 : decode cL_law 681 = .ok (.iconst 1, 1) := by decide +kernel
theorem dL_law_682 : decode cL_law 682 = .ok (.iadd, 1) := by decide +kernel
theorem dL_law_683 : decode cL_law 683 = .ok (.iaload, 1) := by decide +kernel
theorem dL_law_684 : decode cL_law 684 = .ok (.invokevirtual 83, 3) := by decide +kernel
theorem dL_law_687 : decode cL_law 687 = .ok (.if_icmp .eq 5, 3) := by decide +kernel
theorem dL_law_690 : decode cL_law 690 = .ok (.iconst 0, 1) := by decide +kernel
theorem dL_law_691 : decode cL_law 691 = .ok (.ireturn, 1) := by decide +kernel
theorem dL_law_692 : decode cL_law 692 = .ok (.iinc 3 5, 3) := by decide +kernel
theorem dL_law_695 : decode cL_law 695 = .ok (.goto (-677), 3) := by decide +kernel
theorem dL_law_698 : decode cL_law 698 = .ok (.iconst 1, 1) := by decide +kernel
theorem dL_law_699 : decode cL_law 699 = .ok (.ireturn, 1) := by decide +kernel
